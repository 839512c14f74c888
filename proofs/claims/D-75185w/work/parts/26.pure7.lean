/-! pure functions: printing -/
set_option maxRecDepth 100000
/-- one dot -/
def dtS (u : MV) (i : Nat) : MV :=
  if p_inRange (nI i) (u.1 8 0) ((u.1 8 0) + (u.1 9 0) - 1) = 0 then p_feedsTo (up (up u 1 8 (u.1 1 8 - 0)) 1 24 (u.1 1 24 + 0)) (u.1 1 1 + 1)
  else p_feedsTo (up (up u 1 8 (u.1 1 8 - 1)) 1 24 (u.1 1 24 + 1)) (u.1 1 1 + 1)
/-- n dots from the i-th on: the trouble -/
def dtR : Nat → Nat → MV → Int32 × MV
  | 0, _, u => (0, u)
  | n + 1, i, u => if p_end u ≤ u.1 1 1 then (2, u) else if ¬ p_inRange (nI i) (u.1 8 0) ((u.1 8 0) + (u.1 9 0) - 1) = 0 ∧ u.1 1 8 = 0 then (1, u) else dtR n (i + 1) (dtS u i)
theorem fr_dtS (u : MV) (i : Nat) (a j : Nat) (hf : (a ≠ 1 ∨ j ≠ 1) ∧ (a ≠ 1 ∨ j ≠ 2) ∧ (a ≠ 1 ∨ j ≠ 8) ∧ (a ≠ 1 ∨ j ≠ 24) ∧ (a ≠ 1 ∨ j ≠ 25)) : (dtS u i).1 a j = u.1 a j := sorry
theorem fr_dtR : ∀ (n i : Nat) (u : MV) (a j : Nat), ((a ≠ 1 ∨ j ≠ 1) ∧ (a ≠ 1 ∨ j ≠ 2) ∧ (a ≠ 1 ∨ j ≠ 8) ∧ (a ≠ 1 ∨ j ≠ 24) ∧ (a ≠ 1 ∨ j ≠ 25)) → (dtR n i u).2.1 a j = u.1 a j := sorry
def p_dots (v : MV) : Int32 × MV := dtR (nx (v.1 1 11)) 0 v
theorem fr_dots (v : MV) (a j : Nat) (hf : (a ≠ 1 ∨ j ≠ 1) ∧ (a ≠ 1 ∨ j ≠ 2) ∧ (a ≠ 1 ∨ j ≠ 8) ∧ (a ≠ 1 ∨ j ≠ 24) ∧ (a ≠ 1 ∨ j ≠ 25)) : (p_dots v).2.1 a j = v.1 a j := sorry
/-- the gap near e: n tries from i on -/
def gnR (v : MV) (e : Int32) : Nat → Nat → Int32
  | 0, _ => -1
  | n + 1, i => if ¬ v.1 1 2 < e - nI i ∧ ¬ p_beginsGap v (e - nI i) = 0 then e - nI i else if ¬ v.1 1 2 < e + nI i ∧ ¬ p_beginsGap v (e + nI i) = 0 then e + nI i else gnR v e n (i + 1)
def p_gapNear (v : MV) (e : Int32) : Int32 := gnR v e (nx (v.1 7 0) + 1) 0
theorem gn_a {v : MV} {e : Int32} {n i : Nat} (h1 : ¬ v.1 1 2 < e - nI i) (h2 : ¬ p_beginsGap v (e - nI i) = 0) : gnR v e (n + 1) i = e - nI i := sorry
theorem gn_b {v : MV} {e : Int32} {n i : Nat} (h : v.1 1 2 < e - nI i ∨ p_beginsGap v (e - nI i) = 0) (h1 : ¬ v.1 1 2 < e + nI i) (h2 : ¬ p_beginsGap v (e + nI i) = 0) : gnR v e (n + 1) i = e + nI i := sorry
theorem gn_c {v : MV} {e : Int32} {n i : Nat} (h : v.1 1 2 < e - nI i ∨ p_beginsGap v (e - nI i) = 0) (h2 : v.1 1 2 < e + nI i ∨ p_beginsGap v (e + nI i) = 0) : gnR v e (n + 1) i = gnR v e n (i + 1) := sorry
