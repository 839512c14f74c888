/-! learn, abandon -/
set_option maxRecDepth 100000
/-- what learning stands on -/
def lrnOK (v : MV) : Prop := webOK v ∧ -900000 ≤ v.1 1 1 ∧ v.1 1 1 ≤ 900000 ∧ 0 ≤ v.1 5 0 ∧ v.1 5 0 ≤ 1000 ∧ ∀ (z : MV) (f : Int32), (∀ j, z.1 18 j = v.1 18 j) → (∀ j, j ≠ 1 → j ≠ 2 → j ≠ 10 → j ≠ 13 → j ≠ 25 → z.1 1 j = v.1 1 j) → -1000000 ≤ f → f ≤ 1000000 → lfOK z f
theorem lrnOK_fr {u v : MV} (h1 : u.1 1 = v.1 1) (h5 : u.1 5 = v.1 5) (h18 : u.1 18 = v.1 18) (h : lrnOK v) : lrnOK u := sorry
theorem take_18 {u : MV} {k : Nat} (h : inN (u.1 1 18) 0 240) : inN ((p_takesFromList u k).1 1 18) 0 240 := sorry
theorem fr_abS (b k : Nat) (t : Int32 × MV) (a j : Nat) (h : a ≠ 1) : (abS b k t).2.1 a j = t.2.1 a j := sorry
theorem fr_abN (b : Nat) (t : Int32 × MV) : ∀ (k a j : Nat), a ≠ 1 → (abN b t k).2.1 a j = t.2.1 a j := sorry
