/-! pure functions: labels, batches -/
set_option maxRecDepth 100000
/-- the last l below n, l ≥ 1, with b l ≤ p; 0 if there is none -/
def labN (b : Nat → Int32) (p : Int32) : Nat → Nat
  | 0 => 0
  | n + 1 => if b n ≤ p then n else labN b p n
theorem labN_lt (b : Nat → Int32) (p : Int32) : ∀ {n : Nat}, 1 ≤ n → labN b p n < n := sorry
theorem labN_ge {b : Nat → Int32} {p : Int32} : ∀ {n m : Nat}, m < n → b m ≤ p → m ≤ labN b p n := sorry
theorem labN_le {b : Nat → Int32} {p : Int32} : ∀ {n : Nat}, (labN b p n = 0 ∨ b (labN b p n) ≤ p) := sorry
theorem labN_up {b : Nat → Int32} {p : Int32} {n m : Nat} (h0 : 1 ≤ m) (hn : m < n) (hb : ¬ b m ≤ p) (mono : ∀ i j, i ≤ j → j < n → b i ≤ b j) : labN b p n < m := sorry
/-- the web of a mounted roll, as the model lays it -/
def webOK (v : MV) : Prop := v.1 1 3 = nI (nx (v.1 1 3)) ∧ nx (v.1 1 3) ≤ 99 ∧ 1 ≤ nx (v.1 1 3) ∧ ∀ i j, i ≤ j → j < nx (v.1 1 3) → v.1 18 i ≤ v.1 18 j
theorem webOK_fr {v u : MV} (h1 : u.1 1 3 = v.1 1 3) (h2 : ∀ j, u.1 18 j = v.1 18 j) (h : webOK v) : webOK u := sorry
/-- a number of a kind: natural, between lo and hi -/
def inN (x : Int32) (lo hi : Nat) : Prop := x = nI (nx x) ∧ lo ≤ nx x ∧ nx x ≤ hi
/-- the batches, as the model has read them -/
def batOK (v : MV) : Prop := inN (v.1 10 0) 0 6 ∧ ∀ b, b < nx (v.1 10 0) → inN (v.1 13 b) 1 40 ∧ inN (v.1 15 b) 1 6 ∧ inN (v.1 12 b) 0 999999 ∧ inN (v.1 14 b) 0 999
theorem batOK_fr {v u : MV} (h10 : u.1 10 = v.1 10) (h13 : u.1 13 = v.1 13) (h15 : u.1 15 = v.1 15) (h12 : u.1 12 = v.1 12) (h14 : u.1 14 = v.1 14) (h : batOK v) : batOK u := sorry
theorem isB_in {v : MV} {a : Int32} (hB : batOK v) (h : ¬ p_isBatch v a = 0) : 0 ≤ a ∧ nx a < nx (v.1 10 0) := sorry
theorem isB_ix {v : MV} {a : Int32} (hB : batOK v) (h : ¬ p_isBatch v a = 0) : ix a (nx a) 6 := sorry
/-- ten to the k -/
def pw10 : Nat → Int32
  | 0 => 1
  | k + 1 => pw10 k * 10
theorem pw10_ne {k : Nat} (h : k ≤ 6) : ¬ pw10 k = 0 := sorry
/-- the first k at or behind a place with P, of the n next ones -/
def fstB (P : Nat → Bool) : Nat → Nat → Option Nat
  | 0, _ => none
  | n + 1, k => if P k then some k else fstB P n (k + 1)
def optI : Option Nat → Int32
  | none => -1
  | some k => nI k

