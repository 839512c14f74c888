set_option maxRecDepth 100000
theorem asc_of {n : Nat} {x : Int32} (h : n < 128) (e : x = nI n) : asc x := sorry
theorem pm_cB2 {α : Type} (s B o P : List α) : (s ++ (B ++ (o ++ P))).Perm (B ++ ((s ++ o) ++ P)) := sorry
/-- what stands in the pool, out of it -/
theorem pm_pool {α : Type} {B l t P Pr : List α} (h : P.Perm (t ++ Pr)) : (B ++ (l ++ P)).Perm (B ++ ((l ++ t) ++ Pr)) := sorry
/-- the text of a serial -/
def fsT (m : MV) (sf : Nat → Int32) (ln b k : Nat) : List Int32 := ((nmS sf ln ++ [32]) ++ fsA (p_numberOf m (40 * b + k)) (nx (m.1 15 b)) 0) ++ (if m.1 16 b = 0 then [] else [45, 48 + p_checkOf (p_numberOf m (40 * b + k))]) ++ mkT m (40 * b + k)
theorem rem10 (s : Int32) : ∃ z : Int, (s - s / 10 * 10).toInt = z ∧ -9 ≤ z ∧ z ≤ 9 := sorry
theorem chk_N (x : Int32) : ∃ c, c < 10 ∧ p_checkOf x = nI c := sorry
theorem mk_l {m : MV} {L : List (Nat × Nat)} {z : Nat} (hli : liR (m.1 1) L) (hZ : z < 240) (hL2 : ∀ x ∈ L, x.2 < 240) : (if p_placeInList m (nI z) = -1 then ([] : List Int32) else [43]) = if z ∈ L.map Prod.snd then [43] else [] := sorry
theorem ifm {α : Type} {q : Prop} [Decidable q] {a b : α} (h : (if q then (1 : Int32) else 0) = 0) : (if q then a else b) = b := sorry
theorem ifp {α : Type} {q : Prop} [Decidable q] {a b : α} (h : ¬ (if q then (1 : Int32) else 0) = 0) : (if q then a else b) = a := sorry
