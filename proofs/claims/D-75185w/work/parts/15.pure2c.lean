/-! laws of serials -/
set_option maxRecDepth 100000
theorem isS_in {v : MV} {a k : Int32} (hB : batOK v) (h : ¬ p_isSerial v a k = 0) : (0 ≤ a ∧ nx a < nx (v.1 10 0)) ∧ (0 ≤ k ∧ nx k < nx (v.1 13 (nx a))) := sorry
theorem isS_place {v : MV} {a k : Int32} (hB : batOK v) (h : ¬ p_isSerial v a k = 0) : a = nI (nx a) ∧ k = nI (nx k) ∧ nx a < 6 ∧ nx k < 40 ∧ nx a < nx (v.1 10 0) ∧ nx k < nx (v.1 13 (nx a)) := sorry
theorem there_in {v : MV} {its : Nat} (hi : its < 240) (hB : batOK v) (h : ¬ p_isThere v its = 0) : its / 40 < nx (v.1 10 0) ∧ its % 40 < nx (v.1 13 (its / 40)) := sorry
