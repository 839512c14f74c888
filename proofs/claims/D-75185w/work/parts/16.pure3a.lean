/-! pure functions: numbers, searches, the list, the log -/
set_option maxRecDepth 100000
/-- sum of digits by weights 3, 1, 3 .. -/
def ckS : Nat → Int32 → Int32 → Int32 → Int32
  | 0, _, s, _ => s
  | n + 1, x, s, w => if x ≤ 0 then s else ckS n (x / 10) (s + (x - x / 10 * 10) * w) (4 - w)
theorem ckS_0 {n : Nat} {x s w : Int32} (h : x ≤ 0) : ckS n x s w = s := sorry
theorem ckS_s {n : Nat} {x s w : Int32} (h : ¬ x ≤ 0) : ckS (n + 1) x s w = ckS n (x / 10) (s + (x - x / 10 * 10) * w) (4 - w) := sorry
theorem nx_div10 {x : Int32} (h : ¬ x ≤ 0) : nx (x / 10) < nx x := sorry
def tkR (s : Nat → Int32) (k i : Nat) : Nat → Int32 := fun j => if 605 + k ≤ j ∧ j < 605 + i then s (j + 1) else s j
theorem tkR_0 (s : Nat → Int32) (k : Nat) : tkR s k k = s := sorry
theorem tkR_s (s : Nat → Int32) {k i : Nat} (h : k ≤ i) : tkR s k (i + 1) = upd (tkR s k i) (605 + i) (tkR s k i (605 + i + 1)) := sorry
theorem tkR_18 (s : Nat → Int32) (k i : Nat) : tkR s k i 18 = s 18 := sorry
def pfR (s : Nat → Int32) (n i : Nat) : Nat → Int32 := fun j => if 605 + i < j ∧ j ≤ 605 + n then s (j - 1) else s j
theorem pfR_0 (s : Nat → Int32) (n : Nat) : pfR s n n = s := sorry
theorem pfR_s (s : Nat → Int32) {n i : Nat} (h : i + 1 ≤ n) : pfR s n i = upd (pfR s n (i + 1)) (605 + (i + 1)) (pfR s n (i + 1) (605 + (i + 1) - 1)) := sorry
/-- the log moved on by one printing: places above k done -/
def lgR (s : Nat → Int32) (k : Nat) : Nat → Int32 := fun j => if 845 + k < j ∧ j ≤ 940 then s (j - 4) else s j
theorem lgR_0 (s : Nat → Int32) : lgR s 95 = s := sorry
theorem lgR_s (s : Nat → Int32) {k : Nat} (h4 : 4 ≤ k + 1) (h : k + 1 ≤ 95) : lgR s k = upd (lgR s (k + 1)) (845 + (k + 1)) (lgR s (k + 1) (845 + (k + 1) - 4)) := sorry
theorem ii_m1 (k : Nat) : nI (k + 1) + Int32.ofInt (-1) = nI k := sorry
theorem tb_out {x : Int32} (h0 : ¬ x = 0) (h1 : ¬ x = 1) (h2 : ¬ x = 2) (h3 : ¬ x = 3) (h4 : ¬ x = 4) : x.toInt < 0 ∨ 4 < x.toInt := sorry
