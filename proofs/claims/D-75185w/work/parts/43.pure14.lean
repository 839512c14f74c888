/-! lines -/
set_option maxRecDepth 100000
theorem skN_stop {t : Nat → Int32} : ∀ {n a : Nat}, a + n = 601 → wsB (t (skN t n a)) = true → 601 ≤ skN t n a := sorry
theorem sk_sk (t : Nat → Int32) {a : Nat} (ha : a ≤ 601) : sk t (sk t a) = sk t a := sorry
theorem skA_sk {v : MV} (h : tOK v) : skA (up v 22 0 (nI (skA v))) = skA v := sorry
theorem isW_sk {v : MV} (h : tOK v) (i : Nat) : p_isWord (up v 22 0 (nI (skA v))) i = p_isWord v i := sorry
theorem acc_0 {v : MV} {i : Nat} (h : (p_accept v i).1 = 0) : p_isWord v i = 0 := sorry
theorem acc_1 {v : MV} {i : Nat} (h : ¬ (p_accept v i).1 = 0) : ¬ p_isWord v i = 0 := sorry
theorem acc_isW {v : MV} {i : Nat} (hT : tOK v) (h : (p_accept v i).1 = 0) (j : Nat) : p_isWord (p_accept v i).2 j = p_isWord v j := sorry
