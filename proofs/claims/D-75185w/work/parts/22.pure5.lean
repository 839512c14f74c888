/-! pure functions: next and the list -/
set_option maxRecDepth 100000
theorem next_nat {v : MV} (hB : batOK v) (hli : ∀ k, k < nx (v.1 1 18) → inN (v.1 1 (605 + k)) 0 239) (h : ¬ p_next v = -1) : p_next v = nI (nx (p_next v)) ∧ nx (p_next v) < 240 := sorry
theorem fr_row {u v : MV} {f : Nat} (h : ∀ j, u.1 f j = v.1 f j) : u.1 f = v.1 f := sorry
