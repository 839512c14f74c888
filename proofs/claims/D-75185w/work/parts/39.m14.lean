set_option maxRecDepth 100000
set_option maxHeartbeats 4000000 in
theorem w_isWord (X : xT) (h : Nat) (ad : Nat → Nat) (v : MV) (i : Nat)  (hT : tOK v) (hi10 : i < 10) : MM X h ad yX4_isWord cX4_isWord 5 (some .boolean) 4 [.ref (xA X i)] v (some (.int (p_isWord v i))) (up v 22 0 (nI (skA v))) := sorry
def p_accept (v : MV) (i : Nat) : Int32 × MV := (if (p_isWord v i) = (0 : Int32) then ((p_isWord v i), (up (up v 22 0 (nI (skA v))) 22 0 (nI ((skA v) + 0)))) else ((p_isWord v i), (up (up v 22 0 (nI (skA v))) 22 0 (nI ((skA v) + (kLen.getD i 0))))))
theorem fr_accept (v : MV) (i : Nat) (a j : Nat) (hf : (a ≠ 22 ∨ j ≠ 0)) : (p_accept v i).2.1 a j = v.1 a j := sorry
set_option maxHeartbeats 4000000 in
theorem w_accept (X : xT) (h : Nat) (ad : Nat → Nat) (v : MV) (i : Nat)  (hT : tOK v) (hi10 : i < 10) : MM X h ad yX4_accept cX4_accept 3 (some .boolean) 5 [.ref (xA X i)] v (some (.int (p_accept v i).1)) (p_accept v i).2 := sorry
theorem isW_len {v : MV} {i : Nat} (h : ¬ p_isWord v i = 0) : weA v - skA v = kLen.getD i 0 := sorry
theorem tOK_accept {v : MV} {i : Nat} (h : tOK v) : tOK (p_accept v i).2 := sorry
theorem tOK_fail {v : MV} {a b : Int32} (h : tOK v) : tOK (p_fail v a b) := sorry
def p_word (v : MV) (i : Nat) : MV := (let u2 : MV := (if (p_accept v i).1 = (0 : Int32) then (p_fail (p_accept v i).2 (1 : Int32) ((p_accept v i).2.1 22 0)) else (p_accept v i).2)
    u2)
theorem fr_word (v : MV) (i : Nat) (a j : Nat) (hf : (a ≠ 22 ∨ j ≠ 0) ∧ (a ≠ 23 ∨ j ≠ 0) ∧ (a ≠ 24 ∨ j ≠ 0)) : (p_word v i).1 a j = v.1 a j := sorry
set_option maxHeartbeats 4000000 in
theorem w_word (X : xT) (h : Nat) (ad : Nat → Nat) (v : MV) (i : Nat)  (hT : tOK v) (hi10 : i < 10) : MM X h ad yX4_word cX4_word 2 none 6 [.ref (xA X i)] v none (p_word v i) := sorry
theorem tOK_word {v : MV} {i : Nat} (h : tOK v) : tOK (p_word v i) := sorry
def p_digits (v : MV) (a1 : Int32) (a2 : Int32) : Int32 × MV := (if (p_failed v) = (0 : Int32) then (if (nI (deA v)) = (nI (skA v)) then ((dgF (p_byteAt v) (skA v) (deA v - (skA v))), (p_fail (up v 22 0 (nI (deA v))) (1 : Int32) (nI (skA v)))) else (if (6 : Int32) < (nI (deA v - skA v)) then ((dgF (p_byteAt v) (skA v) (deA v - (skA v))), (p_fail (up v 22 0 (nI (deA v))) (2 : Int32) (nI (skA v)))) else (if (p_inRange (dgF (p_byteAt v) (skA v) (deA v - (skA v))) a1 a2) = (0 : Int32) then ((dgF (p_byteAt v) (skA v) (deA v - (skA v))), (p_fail (up v 22 0 (nI (deA v))) (2 : Int32) (nI (skA v)))) else ((dgF (p_byteAt v) (skA v) (deA v - (skA v))), (up v 22 0 (nI (deA v))))))) else (a1, v))
theorem fr_digits (v : MV) (a1 : Int32) (a2 : Int32) (a j : Nat) (hf : (a ≠ 22 ∨ j ≠ 0) ∧ (a ≠ 23 ∨ j ≠ 0) ∧ (a ≠ 24 ∨ j ≠ 0)) : (p_digits v a1 a2).2.1 a j = v.1 a j := sorry
set_option maxHeartbeats 4000000 in
theorem w_digits (X : xT) (h : Nat) (ad : Nat → Nat) (v : MV) (a1 : Int32) (a2 : Int32)  (hT : tOK v) : MM X h ad yX4_digits cX4_digits 5 (some .int) 2 [.int a1, .int a2] v (some (.int (p_digits v a1 a2).1)) (p_digits v a1 a2).2 := sorry
theorem tOK_digits {v : MV} {a b : Int32} (h : tOK v) : tOK (p_digits v a b).2 := sorry
