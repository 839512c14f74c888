/-! where gaps begin: at most two to a label; the iterator's search in whole numbers -/
set_option maxRecDepth 100000
theorem labN_is {b : Nat → Int32} {p : Int32} {n k : Nat} (hk : k < n) (h1 : b k ≤ p) (h2 : k + 1 < n → ¬ b (k + 1) ≤ p) (mono : ∀ i j, i ≤ j → j < n → b i ≤ b j) : labN b p n = k := sorry
theorem light_in {m : MV} (h : rollOK (m.1 1)) (hb : bgOK m) {k : Nat} (hk : k < nx (m.1 1 3)) {p : Int32} (h1 : bgF (m.1 1) k ≤ p) (h2 : p < bgF (m.1 1) (k + 1)) : p_light m p = if m.1 1 4 + m.1 1 (26 + k) ≤ p - bgF (m.1 1) k then m.1 1 7 else m.1 1 6 := sorry
theorem ib_of {m : MV} {p : Int32} (e : p_light m p = p_light m (p - 1)) : p_beginsGap m p = 0 := sorry
theorem no_beg {m : MV} (h : rollOK (m.1 1)) (hb : bgOK m) {k : Nat} (hk : k < nx (m.1 1 3)) {p : Int32} (h1 : bgF (m.1 1) k < p) (h2 : p < bgF (m.1 1) (k + 1)) (h3 : ¬ p - bgF (m.1 1) k = m.1 1 4 + m.1 1 (26 + k)) : p_beginsGap m p = 0 := sorry
/-- how many gaps begin ahead of i -/
def gcN (m : MV) : Nat → Nat
  | 0 => 0
  | i + 1 => gcN m i + (if p_beginsGap m (nI i) = 0 then 0 else 1)
theorem gs_gc (m : MV) : ∀ i, gsF m i = nI (gcN m i) := sorry
theorem gc_mono (m : MV) {i j : Nat} (h : i ≤ j) : gcN m i ≤ gcN m j := sorry
theorem gc_same {m : MV} {i j : Nat} (h : i ≤ j) (hn : ∀ q, i ≤ q → q < j → p_beginsGap m (nI q) = 0) : gcN m j = gcN m i := sorry
theorem gc_two {m : MV} {a x y : Nat} : ∀ b, a ≤ b → (∀ q, a ≤ q → q < b → q ≠ x → q ≠ y → p_beginsGap m (nI q) = 0) → gcN m b ≤ gcN m a + (if a ≤ x ∧ x < b then 1 else 0) + (if a ≤ y ∧ y < b then 1 else 0) := sorry
theorem gc_2 {m : MV} {a x y b : Nat} (h : a ≤ b) (hn : ∀ q, a ≤ q → q < b → q ≠ x → q ≠ y → p_beginsGap m (nI q) = 0) : gcN m b ≤ gcN m a + 2 := sorry
theorem bgF_nx {r : Nat → Int32} (h : rollOK r) {i : Nat} (hi : i ≤ 99) : bgF r i = nI (nx (bgF r i)) ∧ nx (bgF r i) ≤ 36000 := sorry
theorem gc_web {m : MV} (h : rollOK (m.1 1)) (hb : bgOK m) : ∀ k, k ≤ nx (m.1 1 3) → gcN m (nx (bgF (m.1 1) k)) ≤ 2 * k := sorry
theorem gc_all {m : MV} (h : rollOK (m.1 1)) (hb : bgOK m) {j : Nat} (hj : j ≤ nx (p_end m) + 2) : gcN m j ≤ 200 := sorry
theorem p_end_nx {m : MV} (h : rollOK (m.1 1)) (hb : bgOK m) : p_end m = nI (nx (p_end m)) ∧ nx (p_end m) ≤ 36000 := sorry
/-- nothing begins behind the end -/
theorem beg_end {m : MV} (h : rollOK (m.1 1)) (hb : bgOK m) {q : Nat} (hq : nx (p_end m) < q) (hq2 : q ≤ 1000000) : p_beginsGap m (nI q) = 0 := sorry
theorem bds_nI {T i : Nat} (hT : T ≤ 1000000) (hi : i ≤ 1000000) : bds (nI T) (nI i) = T + 1 - i := sorry
theorem bgN_nat (sg rl bg : Nat → Int32) (v : MV) : ∀ (n i : Nat), ∃ j, bgN sg rl bg v n (nI i) = nI j ∧ i ≤ j ∧ j ≤ i + n ∧ (∀ q, i ≤ q → q < j → p_SisBeginning sg rl bg v (nI q) = 0) ∧ (j < i + n → ¬ p_SisBeginning sg rl bg v (nI j) = 0) := sorry
theorem seek_nat (sg rl bg : Nat → Int32) (v : MV) {T i : Nat} (hT : T ≤ 900000) (hi : i ≤ T + 1) : ∃ j, p_seek sg rl bg v (nI T) (nI i) = nI j ∧ i ≤ j ∧ j ≤ T + 1 ∧ (∀ q, i ≤ q → q < j → p_SisBeginning sg rl bg v (nI q) = 0) ∧ (j ≤ T → ¬ p_SisBeginning sg rl bg v (nI j) = 0) := sorry
theorem seek_past (sg rl bg : Nat → Int32) (v : MV) {t p : Int32} (h : t < p) : p_seek sg rl bg v t p = p := sorry
