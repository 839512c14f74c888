/-! small rows for the printed walks -/
theorem ii_1 (k : Nat) : nI k + Int32.ofInt 1 = nI (k + 1) := sorry
theorem zz_of {v : Int32} (h : v = 0 ∨ v = 1) : narrow .boolean (.int v) = .int v := sorry
