set_option maxRecDepth 100000
theorem pwd_w {w : Nat} (h : 1 ≤ w) : pwd w = pw10 (w - 1) := sorry
theorem mk_fO {u : MV} {c its : Nat} (h : fO u c) (hc : c ≤ 900) : fO (p_putMarks u its) (c + (mkT u its).length) := sorry
/-- a batch's marks, serial by serial -/
def fbS (u : MV) (its : Nat) : MV := if u.1 1 (125 + its) = 0 then p_putMarks (p_put u 46) its else p_putMarks u its
def fbN (z : MV) (b : Nat) : Nat → MV
  | 0 => z
  | k + 1 => fbS (fbN z b k) (40 * b + k)
theorem fr_putMarks' (u : MV) (its a j : Nat) (h : a ≠ 34 ∧ (a ≠ 35 ∨ j ≠ 0)) : (p_putMarks u its).1 a j = u.1 a j := sorry
theorem fr_fbS (u : MV) (its a j : Nat) (h : a ≠ 34 ∧ (a ≠ 35 ∨ j ≠ 0)) : (fbS u its).1 a j = u.1 a j := sorry
theorem fr_fbN (z : MV) (b : Nat) : ∀ (k a j : Nat), a ≠ 34 ∧ (a ≠ 35 ∨ j ≠ 0) → (fbN z b k).1 a j = z.1 a j := sorry
theorem fO_fbS {u : MV} {c its : Nat} (h : fO u c) (hc : c ≤ 800) : ∃ d, fO (fbS u its) d ∧ d ≤ c + 2 := sorry
theorem fO_fbN {z : MV} {c b : Nat} (h : fO z c) (hc : c ≤ 7) : ∀ k, k ≤ 40 → ∃ d, fO (fbN z b k) d ∧ d ≤ 7 + 2 * k := sorry
def p_formatSerial (v : MV) (a1 : Int32) (a2 : Int32) : Int32 × MV := (if (p_isSerial v a1 a2) = (0 : Int32) then ((0 : Int32), (up v 0 0 (1 : Int32))) else (lt_ ((p_putName (up (up v 0 0 (0 : Int32)) 35 0 (0 : Int32)) (nx a1)) : MV) (fun z1 =>
    (lt_ ((p_numberOf z1 ((40 * (nx a1)) + (nx a2))) : Int32) (fun xv =>
    (lt_ ((ptL z1 (fsA xv (nx (v.1 15 (nx a1))) 0)) : MV) (fun u =>
    (if (u.1 16 (nx a1)) = (0 : Int32) then (((p_putMarks u ((40 * (nx a1)) + (nx a2))).1 35 0), (p_putMarks u ((40 * (nx a1)) + (nx a2)))) else (((p_putMarks (p_put (p_put u (45 : Int32)) ((48 : Int32) + (p_checkOf xv))) ((40 * (nx a1)) + (nx a2))).1 35 0), (p_putMarks (p_put (p_put u (45 : Int32)) ((48 : Int32) + (p_checkOf xv))) ((40 * (nx a1)) + (nx a2))))))))))))
theorem fr_formatSerial (v : MV) (a1 : Int32) (a2 : Int32) (a j : Nat) (hf : (a ≠ 0 ∨ j ≠ 0) ∧ a ≠ 34 ∧ (a ≠ 35 ∨ j ≠ 0)) : (p_formatSerial v a1 a2).2.1 a j = v.1 a j := sorry
set_option maxHeartbeats 4000000 in
theorem w_formatSerial (X : xT) (h : Nat) (ad : Nat → Nat) (v : MV) (a1 : Int32) (a2 : Int32)  (hB : batOK v) (hnm : nmOK v) (hl : v.1 1 18 = nI (nx (v.1 1 18))) (hl1 : nx (v.1 1 18) ≤ 240) : MM X h ad yX4_formatSerial cX4_formatSerial 6 (some .int) 3 [.int a1, .int a2] v (some (.int (p_formatSerial v a1 a2).1)) (p_formatSerial v a1 a2).2 := sorry
def p_formatBatch (v : MV) (a1 : Int32) : Int32 × MV := (if (p_isBatch v a1) = (0 : Int32) then ((0 : Int32), (up v 0 0 (1 : Int32))) else (lt_ ((p_putName (up (up v 0 0 (0 : Int32)) 35 0 (0 : Int32)) (nx a1)) : MV) (fun z1 =>
    (((fbN z1 (nx a1) (nx (v.1 13 (nx a1)))).1 35 0), (fbN z1 (nx a1) (nx (v.1 13 (nx a1))))))))
set_option maxHeartbeats 4000000 in
theorem w_formatBatch (X : xT) (h : Nat) (ad : Nat → Nat) (v : MV) (a1 : Int32)  (hB : batOK v) (hnm : nmOK v) (hl : v.1 1 18 = nI (nx (v.1 1 18))) (hl1 : nx (v.1 1 18) ≤ 240) : MM X h ad yX4_formatBatch cX4_formatBatch 3 (some .int) 2 [.int a1] v (some (.int (p_formatBatch v a1).1)) (p_formatBatch v a1).2 := sorry
