/-! what reading the text leaves in the model -/
set_option maxRecDepth 100000
/-- the settings that were read lie in their ranges -/
def prK (u : MV) : Prop := (21 ≤ u.1 25 0 ∧ u.1 25 0 ≤ 200) ∧ (0 ≤ u.1 25 1 ∧ u.1 25 1 ≤ 200) ∧ (0 ≤ u.1 25 2 ∧ u.1 25 2 ≤ 20) ∧ (0 ≤ u.1 25 3 ∧ u.1 25 3 ≤ 300) ∧ (1 ≤ u.1 25 4 ∧ u.1 25 4 ≤ 300)
theorem prK_fr {u z : MV} (h : prK u) (e : ∀ j, z.1 25 j = u.1 25 j) : prK z := sorry
theorem dig_nf {z : MV} {lo hi : Int32} (h : p_failed (p_digits z lo hi).2 = 0) : p_failed z = 0 := sorry
theorem up_nf {z : MV} {f i : Nat} {x : Int32} (hf : f ≠ 24) (h : p_failed (up z f i x) = 0) : p_failed z = 0 := sorry
/-- not failed: the error's place is as it was -/
def eO (u z : MV) : Prop := p_failed z = 0 → z.1 23 0 = u.1 23 0
theorem eO_rf (u : MV) : eO u u := sorry
theorem eO_up {u z : MV} {f i : Nat} {x : Int32} (hf : f ≠ 23 ∧ f ≠ 24) (h : eO u z) : eO u (up z f i x) := sorry
theorem eO_upL {u z : MV} {f i : Nat} {x : Int64} (h : eO u z) : eO u (upL z f i x) := sorry
theorem eO_acc {u z : MV} {i : Nat} (h : eO u z) : eO u (p_accept z i).2 := sorry
theorem eO_fail {u z : MV} {a b : Int32} (ha : ¬ a = 0) : eO u (p_fail z a b) := sorry
theorem eO_word {u z : MV} {i : Nat} (h : eO u z) : eO u (p_word z i) := sorry
theorem eO_dig {u z : MV} {lo hi : Int32} (h : eO u z) : eO u (p_digits z lo hi).2 := sorry
theorem eO_packed {u z : MV} (h : eO u z) : eO u (p_packed z).2 := sorry
theorem eO_bl {u z : MV} {its : Int64} (h : eO u z) : ∀ b, eO u (blN z its b) := sorry
theorem eO_r9 {u z : MV} {b : Nat} {x : Int32} (h : eO u z) : eO u (bR9 b z x) := sorry
theorem eO_r3 {u z : MV} {b : Nat} (h : eO u z) : eO u (bR3 b z) := sorry
theorem eO_batch {u v : MV} (h : eO u v) : eO u (p_batchLine v) := sorry
section LN
variable {u : MV} {t : Nat → Int32} {pt : Nat}
theorem ln_cases (h : PR u t pt) (hs : sk t pt = pt) : p_line u = lP1 (p_accept u 0).2 ∨ p_line u = lA1 (p_accept u 1).2 ∨ p_line u = p_batchLine (p_accept u 2).2 ∨ p_line u = p_fail u 4 (nI pt) ∨ p_line u = p_fail u 1 (nI pt) := sorry
theorem eO_line (h : PR u t pt) (hs : sk t pt = pt) : eO u (p_line u) := sorry
theorem prK_line (h : PR u t pt) (hs : sk t pt = pt) (hk : prK u) (hf : p_failed (p_line u) = 0) : prK (p_line u) := sorry
theorem bl_2 {v : MV} {a : Nat} (ha : a ≠ 27) : (p_batchLine v).2 a = v.2 a := sorry
theorem ln_2 (h : PR u t pt) (hs : sk t pt = pt) {a : Nat} (ha : a ≠ 27) : (p_line u).2 a = u.2 a := sorry
end LN
/-- the whole reading -/
theorem ps_all : ∀ (n : Nat) (z : MV), (p_failed z = 0 → tOK z ∧ inN (z.1 26 0) 0 6 ∧ prK z) → (∀ a, a ≠ 27 → (psN n z).2 a = z.2 a) ∧ (∀ a j, (a ≤ 21 ∨ 34 ≤ a) → (psN n z).1 a j = z.1 a j) ∧ (p_failed (psN n z) = 0 → prK (psN n z) ∧ (psN n z).1 23 0 = z.1 23 0) := sorry
theorem parse_all {m : MV} (h20 : inN (m.1 20 0) 0 600) : (∀ a, a ≠ 27 → (p_parse (up m 0 0 0)).2 a = m.2 a) ∧ ((p_parse (up m 0 0 0)).1 20 0 = 0 ∧ ∀ a j, a ≠ 0 → (a ≤ 19 ∨ 34 ≤ a) → (p_parse (up m 0 0 0)).1 a j = m.1 a j) ∧ (p_failed (p_parse (up m 0 0 0)) = 0 → prK (p_parse (up m 0 0 0)) ∧ (p_parse (up m 0 0 0)).1 23 0 = -1 ∧ (p_parse (up m 0 0 0)).1 24 0 = 0) := sorry
/-- the tables out of what was read -/
theorem ldN_all (q : MV) : ∀ n, (∀ b, b < n → (ldN q n).1 12 b = q.1 28 b ∧ (ldN q n).1 13 b = q.1 29 b ∧ (ldN q n).1 14 b = q.1 30 b ∧ (ldN q n).1 15 b = q.1 31 b ∧ (ldN q n).1 16 b = vp_nar .boolean (q.1 32 b) ∧ (ldN q n).1 17 b = vp_nar .boolean (q.1 33 b) ∧ (ldN q n).2 11 b = q.2 27 b) ∧ (∀ a j, a < 12 ∨ 17 < a → (ldN q n).1 a j = q.1 a j) ∧ (ldN q n).2 27 = q.2 27 := sorry
