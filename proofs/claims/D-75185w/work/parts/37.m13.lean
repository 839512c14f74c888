set_option maxRecDepth 100000
def p_append (v : MV) (a1 : Int32) (a2 : Int32) (a3 : Int32) (a4 : Int32) (a5 : Int32) : Int32 × MV := (if (nI ((nx (v.1 20 0)) + 20)) ≤ (600 : Int32) then ((nI ((nx (v.1 20 0)) + 20)), (up (upR (up v 0 0 (0 : Int32)) 19 (apR (v.1 19) (nx (v.1 20 0)) (apB a1 a2 a3 a4 a5) 20)) 20 0 (nI ((nx (v.1 20 0)) + 20)))) else ((-1 : Int32), (up v 0 0 (0 : Int32))))
theorem fr_append (v : MV) (a1 : Int32) (a2 : Int32) (a3 : Int32) (a4 : Int32) (a5 : Int32) (a j : Nat) (hf : (a ≠ 0 ∨ j ≠ 0) ∧ a ≠ 19 ∧ (a ≠ 20 ∨ j ≠ 0)) : (p_append v a1 a2 a3 a4 a5).2.1 a j = v.1 a j := sorry
set_option maxHeartbeats 4000000 in
theorem w_append (X : xT) (h : Nat) (ad : Nat → Nat) (v : MV) (a1 : Int32) (a2 : Int32) (a3 : Int32) (a4 : Int32) (a5 : Int32)  (hbf : v.1 20 0 = nI (nx (v.1 20 0))) (hbf1 : nx (v.1 20 0) ≤ 600) : MM X h ad yX4_append cX4_append 8 (some .int) 0 [.int a1, .int a2, .int a3, .int a4, .int a5] v (some (.int (p_append v a1 a2 a3 a4 a5).1)) (p_append v a1 a2 a3 a4 a5).2 := sorry
def p_byteAt (v : MV) (k : Nat) : Int32 := (if (nI (nx (v.1 21 0))) ≤ (nI k) then (-1 : Int32) else ((v.1 19 k) &&& (255 : Int32)))
set_option maxHeartbeats 4000000 in
theorem w_byteAt (X : xT) (h : Nat) (ad : Nat → Nat) (v : MV) (k : Nat)  (hln : v.1 21 0 = nI (nx (v.1 21 0))) (hln1 : nx (v.1 21 0) ≤ 600) (hk : k ≤ 1000000) : MM X h ad yX4_byteAt cX4_byteAt 2 (some .int) 0 [.int (nI k)] v (some (.int (p_byteAt v k))) v := sorry
theorem byte_in {v : MV} {k : Nat} (hln : v.1 21 0 = nI (nx (v.1 21 0))) (hln1 : nx (v.1 21 0) ≤ 600) (hk : k ≤ 1000000) (h : ¬ p_byteAt v k = -1) : k < nx (v.1 21 0) := sorry
theorem byte_out {v : MV} {k : Nat} (hln1 : nx (v.1 21 0) ≤ 600) (h : k < nx (v.1 21 0)) : 0 ≤ p_byteAt v k := sorry
def skA (v : MV) : Nat := sk (p_byteAt v) (nx (v.1 22 0))
set_option maxHeartbeats 4000000 in
theorem w_peek (X : xT) (h : Nat) (ad : Nat → Nat) (v : MV)   (hln : v.1 21 0 = nI (nx (v.1 21 0))) (hln1 : nx (v.1 21 0) ≤ 600) (hat : v.1 22 0 = nI (nx (v.1 22 0))) (hat1 : nx (v.1 22 0) ≤ 5000) : MM X h ad yX4_peek cX4_peek 1 (some .int) 1 [] v (some (.int (p_byteAt v (skA v)))) (up v 22 0 (nI (skA v))) := sorry
def weA (v : MV) : Nat := we (p_byteAt v) (skA v)
set_option maxHeartbeats 4000000 in
theorem w_wordEnd (X : xT) (h : Nat) (ad : Nat → Nat) (v : MV)   (hln : v.1 21 0 = nI (nx (v.1 21 0))) (hln1 : nx (v.1 21 0) ≤ 600) (hat : v.1 22 0 = nI (nx (v.1 22 0))) (hat1 : nx (v.1 22 0) ≤ 5000) : MM X h ad yX4_wordEnd cX4_wordEnd 2 (some .int) 2 [] v (some (.int (nI (weA v)))) (up v 22 0 (nI (skA v))) := sorry
