/-! pure functions: searches -/
set_option maxRecDepth 100000
def nxP (v : MV) (its : Nat) : Bool := decide (¬ p_isThere v its = 0) && decide (v.1 1 (125 + its) = 0)
def pa_P (v : MV) (a : Int32) (its : Nat) : Bool := decide (¬ p_isThere v its = 0) && (decide (v.1 1 (125 + its) = 1) && decide (p_numberOf v its = a))
/-- the most attempts of the first n serials: which, and how many -/
def maF (v : MV) : Nat → Int32 × Int32
  | 0 => (-1, 0)
  | n + 1 => if ¬ p_isThere v n = 0 ∧ (maF v n).2 < v.1 1 (365 + n) then (nI (100 * (n / 40) + n % 40), v.1 1 (365 + n)) else maF v n
theorem fstB_y {P : Nat → Bool} {n k : Nat} (h : 0 < n) (hp : P k = true) : fstB P n k = some k := sorry
theorem fstB_n {P : Nat → Bool} {n k : Nat} (h : k < n) (hp : ¬ P k = true) : fstB P (n - (k + 1)) (k + 1) = fstB P (n - k) k := sorry
