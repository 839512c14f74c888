set_option maxRecDepth 100000
set_option maxHeartbeats 4000000 in
theorem w_putName (X : xT) (h : Nat) (ad : Nat → Nat) (v : MV) (b : Nat)  (hb6 : b < 6) (hbn : b < nx (v.1 10 0)) (hnm : nmOK v) (hf : v.1 35 0 = nI (nx (v.1 35 0))) (hf1 : nx (v.1 35 0) ≤ 100) : MM X h ad yX4_putName cX4_putName 5 none 1 [.int (nI b)] v none (p_putName v b) := sorry
theorem put_f {v : MV} {c : Int32} (h : v.1 35 0 = nI (nx (v.1 35 0))) (h1 : nx (v.1 35 0) ≤ 200) : (p_put v c).1 35 0 = nI (nx ((p_put v c).1 35 0)) ∧ nx ((p_put v c).1 35 0) = nx (v.1 35 0) + 1 := sorry
def p_putMarks (v : MV) (its : Nat) : MV := (if (v.1 1 (125 + its)) = (0 : Int32) then (if (p_placeInList v (nI its)) = (-1 : Int32) then v else (p_put v (43 : Int32))) else (if (v.1 1 (125 + its)) = (1 : Int32) then (if (p_placeInList (p_put v (42 : Int32)) (nI its)) = (-1 : Int32) then (p_put v (42 : Int32)) else (p_put (p_put v (42 : Int32)) (43 : Int32))) else (if (p_placeInList (p_put v (120 : Int32)) (nI its)) = (-1 : Int32) then (p_put v (120 : Int32)) else (p_put (p_put v (120 : Int32)) (43 : Int32)))))
theorem fr_putMarks (v : MV) (its : Nat) (a j : Nat) (hf : a ≠ 34 ∧ (a ≠ 35 ∨ j ≠ 0)) : (p_putMarks v its).1 a j = v.1 a j := sorry
set_option maxHeartbeats 4000000 in
theorem w_putMarks (X : xT) (h : Nat) (ad : Nat → Nat) (v : MV) (its : Nat)  (hl : v.1 1 18 = nI (nx (v.1 1 18))) (hl1 : nx (v.1 1 18) ≤ 240) (hi : its < 240) (hf : v.1 35 0 = nI (nx (v.1 35 0))) (hf1 : nx (v.1 35 0) ≤ 100) : MM X h ad yX4_putMarks cX4_putMarks 2 none 1 [.int (nI its)] v none (p_putMarks v its) := sorry
/-- the marks of a serial -/
def mkT (v : MV) (its : Nat) : List Int32 := (if v.1 1 (125 + its) = 0 then [] else [if v.1 1 (125 + its) = 1 then 42 else 120]) ++ (if p_placeInList v (nI its) = -1 then [] else [43])
theorem mk_eq (v : MV) (its : Nat) : p_putMarks v its = ptL v (mkT v its) := sorry
theorem mk_len (v : MV) (its : Nat) : (mkT v its).length ≤ 2 := sorry
theorem mk_1 (v : MV) (its : Nat) (h : v.1 1 (125 + its) = 0) : (mkT v its).length ≤ 1 := sorry
theorem mk_fr {u v : MV} (h : ∀ j, u.1 1 j = v.1 1 j) (its : Nat) : mkT u its = mkT v its := sorry
