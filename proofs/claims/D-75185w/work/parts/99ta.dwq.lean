/-! the list of serials to be printed again -/
set_option maxRecDepth 100000
theorem nd_len : ∀ (n : Nat) (l : List Nat), l.Nodup → (∀ x ∈ l, x < n) → l.length ≤ n := sorry
/-- one more at the end -/
theorem rq_li {row : Nat → Int32} {L : List (Nat × Nat)} {q z : Nat} (h : liR row L) (hl : L.length + 1 ≤ 240) : liR (upd (upd row (605 + L.length) (nI z)) 18 (nI (L.length + 1))) (L ++ [(q, z)]) := sorry
theorem er_eq {P : Nat × Nat → Bool} {Z : Nat} : ∀ (L : List (Nat × Nat)) (k x : Nat), (∀ y ∈ L, P y = true ↔ ¬ y.2 = Z) → L[k]? = some (x, Z) → (L.map Prod.snd).Nodup → L.filter P = L.eraseIdx k := sorry
/-- one is taken out -/
theorem uq_li {u : MV} {L : List (Nat × Nat)} {k : Nat} (h : liR (u.1 1) L) (hk : k < L.length) : liR ((p_takesFromList u k).1 1) (L.eraseIdx k) := sorry
