/-! what printing stands on -/
set_option maxRecDepth 100000
theorem prt_18 {v u : MV} (hl : v.1 1 18 = nI (nx (v.1 1 18))) (hl1 : nx (v.1 1 18) ≤ 240) (e : u = if nI (nx (v.1 1 18)) ≤ 0 then v else p_takesFromList v 0) : inN (u.1 1 18) 0 239 := sorry
/-- what a run stands on -/
def prOK (v : MV) : Prop := batOK v ∧ webOK v ∧ inN (v.1 1 11) 0 100000 ∧ inN (v.1 7 0) 0 1000 ∧ inN (v.1 1 18) 0 240 ∧ ∀ k, k < nx (v.1 1 18) → inN (v.1 1 (605 + k)) 0 239
theorem prOK_fr {v u : MV} (h1 : u.1 1 = v.1 1) (h7 : u.1 7 = v.1 7) (h10 : u.1 10 = v.1 10) (h12 : u.1 12 = v.1 12) (h13 : u.1 13 = v.1 13) (h14 : u.1 14 = v.1 14) (h15 : u.1 15 = v.1 15) (h18 : u.1 18 = v.1 18) (h : prOK v) : prOK u := sorry
