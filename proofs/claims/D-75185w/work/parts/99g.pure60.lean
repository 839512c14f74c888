/-! copies of a State: the same numbers; addresses of a State laid over others -/
set_option maxRecDepth 100000
/-- the State's addresses out of a9, the others out of ad -/
def adS (ad a9 : Nat → Nat) : Nat → Nat := fun k => if k = 102 ∨ k = 8 ∨ k = 15 ∨ k = 16 ∨ k = 17 ∨ k = 18 ∨ k = 120 ∨ k = 125 ∨ (130 ≤ k ∧ k ≤ 133) then a9 k else ad k
theorem cpV_ok {v : MV} {f i : Nat} (h : okc f i) : (cpV v).1 f i = v.1 f i := sorry
theorem RS_cp {r : Nat → Int32} {v : MV} (h : RS r v) (h19 : inN (r 19) 0 24) : RS r (cpV v) := sorry
theorem rlR_rc {r rl bg : Nat → Int32} (h : rlR r rl bg) (h3 : inN (r 3) 0 99) : rlR r rl (rcF bg (rl 1 + rl 2) (nx (rl 0))) := sorry
theorem CX_rc {m : MV} {sg rl bg : Nat → Int32} (h : CX m sg rl bg) : CX m sg rl (rcF bg (rl 1 + rl 2) (nx (rl 0))) := sorry
