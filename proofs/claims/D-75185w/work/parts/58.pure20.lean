/-! ArrayDeque: a ring of references -/
set_option maxRecDepth 100000
def dqW (X : xT) (a e cap : Nat) (f : Nat → Option Nat) (hd tl : Nat) : va_W := [(a, .inr (14, [.ref e, .int (nI hd), .int (nI tl)])), (e, .inl (xY X 4, cap, .inr (.inr (.inr (.inr f)))))]
def dqI (cap : Nat) (f : Nat → Option Nat) (hd tl : Nat) (L : List Nat) : Prop := 1 ≤ cap ∧ cap ≤ 2000 ∧ hd < cap ∧ L.length < cap ∧ tl = (hd + L.length) % cap ∧ ∀ i, i < L.length → f ((hd + i) % cap) = L[i]?
theorem mv_front {α : Type} : ∀ (l : List α) (i : Nat) (x : α), l[i]? = some x → l.Perm (x :: l.eraseIdx i) := sorry
theorem md_s {a c : Nat} (h : a < c) : (a + 1) % c = if c ≤ a + 1 then 0 else a + 1 := sorry
theorem md_2 {a n c : Nat} (ha : a < c) (hn : n ≤ c) : (a + n) % c = if c ≤ a + n then a + n - c else a + n := sorry
theorem dq_tl {cap hd tl : Nat} {f : Nat → Option Nat} {L : List Nat} (h : dqI cap f hd tl L) : tl < cap ∧ tl = if cap ≤ hd + L.length then hd + L.length - cap else hd + L.length := sorry
theorem dq_e {cap hd tl : Nat} {f : Nat → Option Nat} {L : List Nat} (h : dqI cap f hd tl L) : hd = tl ↔ L = [] := sorry
/-- the number of elements out of head and tail -/
theorem dq_n {cap hd tl : Nat} {f : Nat → Option Nat} {L : List Nat} (h : dqI cap f hd tl L) : L.length = if tl < hd then tl + cap - hd else tl - hd := sorry
theorem dq_hd {cap hd tl x : Nat} {f : Nat → Option Nat} {L : List Nat} (h : dqI cap f hd tl (x :: L)) : f hd = some x := sorry
theorem va_up_s {α : Type} {f : Nat → α} {k : Nat} {x : α} : va_up f k x k = x := sorry
theorem va_up_n {α : Type} {f : Nat → α} {k j : Nat} {x : α} (h : j ≠ k) : va_up f k x j = f j := sorry
/-- places of a ring are apart -/
theorem md_inj {hd i j c : Nat} (hh : hd < c) (hi : i < c) (hj : j < c) (h : (hd + i) % c = (hd + j) % c) : i = j := sorry
theorem dq_rf {cap hd tl x : Nat} {f : Nat → Option Nat} {L : List Nat} (h : dqI cap f hd tl (x :: L)) : dqI cap (va_up f hd none) ((hd + 1) % cap) tl L := sorry
/-- at the end, room is left -/
theorem dq_al {cap hd tl x : Nat} {f : Nat → Option Nat} {L : List Nat} (h : dqI cap f hd tl L) (hne : ¬ hd = (tl + 1) % cap) : dqI cap (va_up f tl (some x)) hd ((tl + 1) % cap) (L ++ [x]) := sorry
/-- at the beginning, room is left -/
theorem dq_af {cap hd tl x : Nat} {f : Nat → Option Nat} {L : List Nat} (h : dqI cap f hd tl L) (hne : ¬ (hd + cap - 1) % cap = tl) : dqI cap (va_up f ((hd + cap - 1) % cap) (some x)) ((hd + cap - 1) % cap) tl (x :: L) := sorry
