/-! runs -/
set_option maxRecDepth 100000
def LI (u : MV) (m : Nat) : Prop := inN (u.1 1 18) 0 m ∧ ∀ k, k < nx (u.1 1 18) → inN (u.1 1 (605 + k)) 0 239
theorem LI.mono {u : MV} {m n : Nat} (h : LI u m) (hmn : m ≤ n) : LI u n := sorry
theorem LI_fr {u w : MV} {m : Nat} (hm : m ≤ 240) (h18 : u.1 1 18 = w.1 1 18) (h605 : ∀ k, k < 240 → u.1 1 (605 + k) = w.1 1 (605 + k)) (h : LI w m) : LI u m := sorry
theorem LI_take {v : MV} (h : LI v 240) : LI (if nI (nx (v.1 1 18)) ≤ (0 : Int32) then v else p_takesFromList v 0) 239 := sorry
theorem LI_put {u : MV} {its : Nat} (h : LI u 239) (hi : its < 240) : LI (p_putsFirst u its) 240 := sorry
theorem LI_logs {u : MV} {its m : Nat} {f : Int32} (hm : m ≤ 240) (h : LI u m) : LI (p_logs u its f) m := sorry
theorem LI_prints {v : MV} {its : Nat} (h : LI v 240) (hi : its < 240) : LI (p_prints v its).2 240 := sorry
theorem p_next_fr {u v : MV} (h10 : u.1 10 = v.1 10) (h13 : u.1 13 = v.1 13) (h : ∀ j, j = 18 ∨ 125 ≤ j → u.1 1 j = v.1 1 j) : p_next u = p_next v := sorry
/-- a printing within a run -/
def rnS (u : MV) : MV := up (p_prints u (nx (p_next u))).2 1 15 (p_prints u (nx (p_next u))).1
/-- at most n more printings behind b -/
def rnL : Nat → Nat → MV → Nat × MV
  | 0, b, u => (b, u)
  | n + 1, b, u => if p_next u = -1 ∨ ¬ u.1 1 15 = 0 then (b, u) else rnL n (b + 1) (rnS u)
theorem rn_x {n b : Nat} {u : MV} (h : n = 0 ∨ p_next u = -1 ∨ ¬ u.1 1 15 = 0) : rnL n b u = (b, u) := sorry
theorem rn_s {n b : Nat} {u : MV} (h1 : ¬ p_next u = -1) (h2 : u.1 1 15 = 0) : rnL (n + 1) b u = rnL n (b + 1) (rnS u) := sorry
theorem prOK_LI {v : MV} (h : prOK v) : LI v 240 := sorry
theorem prOK_of {u v : MV} (h : prOK v) (hf : ∀ a j, (a ≠ 1 ∧ a ≠ 0 ∧ a ≠ 2 ∧ a ≠ 3 ∧ a ≠ 4) ∨ (a = 1 ∧ (j = 3 ∨ j = 11)) → u.1 a j = v.1 a j) (hl : LI u 240) : prOK u := sorry
theorem prOK_rnS {u : MV} (h : prOK u) (hi : nx (p_next u) < 240) : prOK (rnS u) := sorry
/-- abandoning: the k-th serial of batch b -/
def abS (b k : Nat) (t : Int32 × MV) : Int32 × MV :=
  let u1 := if t.2.1 1 (125 + (40 * b + k)) = 0 then (t.1 + 1, up t.2 1 (125 + (40 * b + k)) 2) else t
  if p_placeInList u1.2 (nI (40 * b + k)) = -1 then u1 else (u1.1, p_takesFromList u1.2 (nx (p_placeInList u1.2 (nI (40 * b + k)))))
def abN (b : Nat) (t : Int32 × MV) : Nat → Int32 × MV
  | 0 => t
  | k + 1 => abS b k (abN b t k)
def acR (s t : Nat → Int32) (k : Nat) : Nat → Int32 := fun j => if j < k then s j else t j
theorem acR_0 (s t : Nat → Int32) : acR s t 0 = t := sorry
theorem acR_s (s t : Nat → Int32) (k : Nat) : acR s t (k + 1) = upd (acR s t k) k (s k) := sorry
