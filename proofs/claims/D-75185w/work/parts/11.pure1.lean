/-! pure functions of the model's loops, and small laws -/
theorem nx_nI {n : Nat} (h : n < 2 ^ 31) : nx (nI n) = n := sorry
theorem nx_of {x : Int32} (h : 0 ≤ x) : x = nI (nx x) := sorry
theorem nx_lt (x : Int32) : nx x < 2 ^ 31 := sorry
theorem ix_of {x : Int32} {N : Nat} (h0 : 0 ≤ x) (h1 : nx x < N) (hN : N < 2 ^ 31) : ix x (nx x) N := sorry
theorem nx_le {x y : Int32} (h0 : 0 ≤ x) (h : x ≤ y) : nx x ≤ nx y := sorry
theorem nx_lt_of {x y : Int32} (h0 : 0 ≤ x) (h : x < y) : nx x < nx y := sorry
theorem inR_1 {a b c : Int32} (h : ¬ p_inRange a b c = 0) : b ≤ a ∧ a ≤ c := sorry
theorem inR_iff {a b c : Int32} : p_inRange a b c = 0 ↔ ¬ (b ≤ a ∧ a ≤ c) := sorry
def cntS (s : Nat → Int32) (b : Nat) (x : Int32) : Nat → Int32
  | 0 => 0
  | k + 1 => cntS s b x k + (if s (125 + (40 * b + k)) = x then 1 else 0)
theorem le_nlt {a b : Int32} (h : ¬ a < b) : b ≤ a := sorry
theorem nle_lt {a b : Int32} (h : a < b) : ¬ b ≤ a := sorry
theorem lt_nle {a b : Int32} (h : ¬ a ≤ b) : b < a := sorry
theorem ix_e {x : Int32} {N : Nat} (e : x = nI (nx x)) (h : nx x < N) (hN : N < 2 ^ 31) : ix x (nx x) N := sorry
