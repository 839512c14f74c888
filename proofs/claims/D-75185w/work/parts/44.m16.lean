set_option maxRecDepth 100000
def p_line (v : MV)  : MV := (lt_ ((up v 22 0 (nI (skA v))) : MV) (fun m1 =>
    (lt_ ((up m1 22 0 (nI (skA m1))) : MV) (fun m2 =>
    (if (p_isWord m1 2) = (0 : Int32) then (lt_ ((p_accept m2 0).2 : MV) (fun m3 =>
    (if (p_accept m2 0).1 = (0 : Int32) then (lt_ ((p_accept m3 1).2 : MV) (fun m7 =>
    (if (p_accept m3 1).1 = (0 : Int32) then (lt_ ((p_accept m7 2).2 : MV) (fun m10 =>
    (if (p_accept m7 2).1 = (0 : Int32) then (p_fail m10 (1 : Int32) (m10.1 22 0)) else (p_batchLine m10)))) else (lt_ ((p_digits m7 (0 : Int32) (300 : Int32)).2 : MV) (fun m8 =>
    (lt_ ((p_digits (up m8 25 3 (p_digits m7 (0 : Int32) (300 : Int32)).1) (1 : Int32) (300 : Int32)).2 : MV) (fun m9 =>
    (up m9 25 4 (p_digits (up m8 25 3 (p_digits m7 (0 : Int32) (300 : Int32)).1) (1 : Int32) (300 : Int32)).1)))))))) else (lt_ ((p_digits m3 (21 : Int32) (200 : Int32)).2 : MV) (fun m4 =>
    (lt_ ((p_digits (up m4 25 0 (p_digits m3 (21 : Int32) (200 : Int32)).1) (0 : Int32) (200 : Int32)).2 : MV) (fun m5 =>
    (lt_ ((p_digits (up m5 25 1 (p_digits (up m4 25 0 (p_digits m3 (21 : Int32) (200 : Int32)).1) (0 : Int32) (200 : Int32)).1) (0 : Int32) (20 : Int32)).2 : MV) (fun m6 =>
    (up m6 25 2 (p_digits (up m5 25 1 (p_digits (up m4 25 0 (p_digits m3 (21 : Int32) (200 : Int32)).1) (0 : Int32) (200 : Int32)).1) (0 : Int32) (20 : Int32)).1)))))))))) else (if (nI (nx (v.1 26 0))) = (6 : Int32) then (p_fail m2 (4 : Int32) (m2.1 22 0)) else (lt_ ((p_accept m2 0).2 : MV) (fun m3 =>
    (if (p_accept m2 0).1 = (0 : Int32) then (lt_ ((p_accept m3 1).2 : MV) (fun m7 =>
    (if (p_accept m3 1).1 = (0 : Int32) then (lt_ ((p_accept m7 2).2 : MV) (fun m10 =>
    (if (p_accept m7 2).1 = (0 : Int32) then (p_fail m10 (1 : Int32) (m10.1 22 0)) else (p_batchLine m10)))) else (lt_ ((p_digits m7 (0 : Int32) (300 : Int32)).2 : MV) (fun m8 =>
    (lt_ ((p_digits (up m8 25 3 (p_digits m7 (0 : Int32) (300 : Int32)).1) (1 : Int32) (300 : Int32)).2 : MV) (fun m9 =>
    (up m9 25 4 (p_digits (up m8 25 3 (p_digits m7 (0 : Int32) (300 : Int32)).1) (1 : Int32) (300 : Int32)).1)))))))) else (lt_ ((p_digits m3 (21 : Int32) (200 : Int32)).2 : MV) (fun m4 =>
    (lt_ ((p_digits (up m4 25 0 (p_digits m3 (21 : Int32) (200 : Int32)).1) (0 : Int32) (200 : Int32)).2 : MV) (fun m5 =>
    (lt_ ((p_digits (up m5 25 1 (p_digits (up m4 25 0 (p_digits m3 (21 : Int32) (200 : Int32)).1) (0 : Int32) (200 : Int32)).1) (0 : Int32) (20 : Int32)).2 : MV) (fun m6 =>
    (up m6 25 2 (p_digits (up m5 25 1 (p_digits (up m4 25 0 (p_digits m3 (21 : Int32) (200 : Int32)).1) (0 : Int32) (200 : Int32)).1) (0 : Int32) (20 : Int32)).1))))))))))))))))
theorem fr_line (v : MV)  (a j : Nat) (hf : (a ≠ 22 ∨ j ≠ 0) ∧ (a ≠ 23 ∨ j ≠ 0) ∧ (a ≠ 24 ∨ j ≠ 0) ∧ a ≠ 25 ∧ (a ≠ 26 ∨ j ≠ 0) ∧ a ≠ 28 ∧ a ≠ 29 ∧ a ≠ 30 ∧ a ≠ 31 ∧ a ≠ 32 ∧ a ≠ 33) : (p_line v ).1 a j = v.1 a j := sorry
set_option maxHeartbeats 4000000 in
theorem w_line (X : xT) (h : Nat) (ad : Nat → Nat) (v : MV)   (hT : tOK v) (hN6 : inN (v.1 26 0) 0 6) : MM X h ad yX4_line cX4_line 1 none 8 [] v none (p_line v) := sorry
