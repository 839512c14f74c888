/-! pure functions: mounting, searches over serials -/
set_option maxRecDepth 100000
theorem inR_N {a x lo : Int32} {n : Nat} (hx : x = nI n) (hn : n ≤ 1000000) (hlo : 0 ≤ lo) (h : ¬ p_inRange a lo x = 0) : a = nI (nx a) ∧ nx a ≤ n := sorry
theorem inR_N1 {a x : Int32} {n : Nat} (hx : x = nI n) (hn : n ≤ 1000000) (h : ¬ p_inRange a 0 (x - 1) = 0) : a = nI (nx a) ∧ nx a < n := sorry
def zpR (s : Nat → Int32) (k : Nat) : Nat → Int32 := fun j => if 26 ≤ j ∧ j < 26 + k then 0 else s j
theorem zpR_0 (s : Nat → Int32) : zpR s 0 = s := sorry
theorem zpR_s (s : Nat → Int32) (k : Nat) : zpR s (k + 1) = upd (zpR s k) (26 + k) 0 := sorry
theorem zpR_lo (s : Nat → Int32) {k j : Nat} (h : j < 26) : zpR s k j = s j := sorry
theorem pil_fr {u v : MV} (h : ∀ j, u.1 1 j = v.1 1 j) (a : Int32) : p_placeInList u a = p_placeInList v a := sorry
theorem fstB_lt {P : Nat → Bool} : ∀ {n k j : Nat}, fstB P n k = some j → k ≤ j ∧ j < k + n ∧ P j = true := sorry
theorem fstB_none {P : Nat → Bool} : ∀ {n k : Nat}, fstB P n k = none → ∀ j, k ≤ j → j < k + n → ¬ P j = true := sorry
theorem pil_nat {v : MV} {a : Int32} (h1 : nx (v.1 1 18) ≤ 240) (h : ¬ p_placeInList v a = -1) : p_placeInList v a = nI (nx (p_placeInList v a)) ∧ nx (p_placeInList v a) < nx (v.1 1 18) := sorry
/-- was it seen among the first k serials of batch b -/
def vfH (v : MV) (b : Nat) (a : Int32) : Nat → Int32
  | 0 => 0
  | k + 1 => if ¬ vfH v b a k = 0 ∨ p_numberOf v (40 * b + k) = a then 1 else 0
def vfP (v : MV) (b : Nat) (a : Int32) : Nat → Int32
  | 0 => 0
  | k + 1 => if ¬ vfP v b a k = 0 ∨ (p_numberOf v (40 * b + k) = a ∧ v.1 1 (125 + (40 * b + k)) = 1) then 1 else 0
def dbI (v : MV) (i : Nat) : Nat → Int32
  | 0 => 0
  | o + 1 => if ¬ dbI v i o = 0 ∨ (¬ o = i ∧ ¬ p_isThere v o = 0 ∧ ¬ v.1 1 (125 + o) = 0 ∧ p_numberOf v o = p_numberOf v i) then 1 else 0
def dbN (v : MV) : Nat → Int32
  | 0 => 0
  | i + 1 => dbN v i + (if (¬ p_isThere v i = 0 ∧ ¬ v.1 1 (125 + i) = 0) ∧ ¬ dbI v i 240 = 0 then 1 else 0)
theorem db_y {v : MV} {i : Nat} (h1 : ¬ p_isThere v i = 0) (h2 : ¬ v.1 1 (125 + i) = 0) (h3 : ¬ dbI v i 240 = 0) : dbN v i + 1 = dbN v (i + 1) := sorry
theorem db_n {v : MV} {i : Nat} (h : p_isThere v i = 0 ∨ v.1 1 (125 + i) = 0 ∨ dbI v i 240 = 0) : dbN v i + 0 = dbN v (i + 1) := sorry
/-- the longest row of printed ones in the first k of the log, and the present one -/
def lrF (s : Nat → Int32) : Nat → Int32 × Int32
  | 0 => (0, 0)
  | k + 1 => let row := if s (845 + 4 * k + 1) = 1 then (lrF s k).2 + 1 else 0; (p_greater (lrF s k).1 row, row)
def tpF (v : MV) : Nat → Int32
  | 0 => v.1 1 18
  | b + 1 => tpF v b + p_manyIn v b 0

