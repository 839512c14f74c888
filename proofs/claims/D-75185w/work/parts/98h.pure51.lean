/-! the batches that were read -/
set_option maxRecDepth 100000
/-- behind white space or not: the parser's place and the model's -/
def PRs (z : MV) (t : Nat → Int32) (a : Nat) : Prop := p_failed z = 0 ∧ p_byteAt z = t ∧ tOK z ∧ skA z = sk t a ∧ a ≤ 601
theorem PR.s {u : MV} {t : Nat → Int32} {pt : Nat} (h : PR u t pt) : PRs u t pt := sorry
theorem PR.ss {u : MV} {t : Nat → Int32} {pt : Nat} (h : PR u t pt) : PRs u t (sk t pt) := sorry
def brB (X : xT) (Nw : va_W) (u : MV) (b x bn bs ln : Nat) (sf : Nat → Int32) : Prop :=
  (x, Sum.inr (6, [.ref bn, .int (u.1 28 b), .int (u.1 29 b), .int (u.1 30 b), .int (u.1 31 b), .int (u.1 32 b), .int (u.1 33 b)])) ∈ Nw ∧ (bn, Sum.inr (17, [.ref bs, .int (0 : Int32), .int (0 : Int32), .int (0 : Int32)])) ∈ Nw ∧ (bs, Sum.inl (xY X 3, ln, Sum.inl sf)) ∈ Nw ∧ (1 ≤ ln ∧ ln ≤ 6) ∧ letF sf ln ∧ u.2 27 b = pkF sf 0 ln ∧ inN (u.1 29 b) 1 40 ∧ inN (u.1 31 b) 1 6 ∧ inN (u.1 28 b) 0 999999 ∧ inN (u.1 30 b) 0 999 ∧ (u.1 32 b = 0 ∨ u.1 32 b = 1) ∧ (u.1 33 b = 0 ∨ u.1 33 b = 1)
def BR (X : xT) (Nw : va_W) (u : MV) (ca : Nat) (fa : Nat → Option Nat) (LB : List Nat) : Prop := inN (u.1 26 0) 0 6 ∧ LB.length = nx (u.1 26 0) ∧ alI ca fa LB ∧ ca ≤ 12 ∧ ∀ b x, LB[b]? = some x → ∃ bn bs ln sf, brB X Nw u b x bn bs ln sf
theorem brB_fr {X : xT} {Nw Nv : va_W} {u z : MV} {b x bn bs ln : Nat} {sf : Nat → Int32} (h : brB X Nw u b x bn bs ln sf) (h1 : ∀ a, 28 ≤ a → a ≤ 33 → z.1 a b = u.1 a b) (h2 : z.2 27 b = u.2 27 b) (hN : ∀ c ∈ Nw, c ∈ Nv) : brB X Nv z b x bn bs ln sf := sorry
theorem mem_front {α : Type} {l : List α} {a : α} (h : a ∈ l) : ∃ r, l.Perm (a :: r) := sorry
theorem pm_3m {α : Type} {l : List α} {a b c : α} (ha : a ∈ l) (hb : b ∈ l) (hc : c ∈ l) (hab : b ≠ a) (hac : c ≠ a) (hbc : c ≠ b) : ∃ r, l.Perm ([a, b, c] ++ r) := sorry
/-- a batch, its name and its letters, out of the pool -/
theorem br_out {X : xT} {Nw : va_W} {u : MV} {b x bn bs ln : Nat} {sf : Nat → Int32} (h : brB X Nw u b x bn bs ln sf) : ∃ Nr : va_W, Nw.Perm ([(x, Sum.inr (6, [.ref bn, .int (u.1 28 b), .int (u.1 29 b), .int (u.1 30 b), .int (u.1 31 b), .int (u.1 32 b), .int (u.1 33 b)])), (bn, Sum.inr (17, [.ref bs, .int (0 : Int32), .int (0 : Int32), .int (0 : Int32)])), (bs, Sum.inl (xY X 3, ln, Sum.inl sf))] ++ Nr) := sorry
section STG
variable {z : MV} {i : Nat} {lo hi : Int32}
theorem fail_2 (z : MV) (a b : Int32) : (p_fail z a b).2 = z.2 := sorry
theorem acc_2 : (p_accept z i).2.2 = z.2 := sorry
theorem word_2 : (p_word z i).2 = z.2 := sorry
theorem dig_2 : (p_digits z lo hi).2.2 = z.2 := sorry
theorem stf {f j a k : Nat} {x : Int32} (h : a ≠ 22 ∧ a ≠ 23 ∧ a ≠ 24) (h2 : a ≠ f ∨ k ≠ j) : (up (p_digits (p_word z i) lo hi).2 f j x).1 a k = z.1 a k := sorry
theorem stf2 {f j : Nat} {x : Int32} : (up (p_digits (p_word z i) lo hi).2 f j x).2 = z.2 := sorry
theorem sta {f j a k : Nat} {x : Int32} (h : a ≠ 22 ∧ a ≠ 23 ∧ a ≠ 24) (h2 : a ≠ f ∨ k ≠ j) : (up (p_accept z i).2 f j x).1 a k = z.1 a k := sorry
theorem acc_z (z : MV) (i : Nat) : (p_accept z i).1 = 0 ∨ (p_accept z i).1 = 1 := sorry
theorem nar_z {x : Int32} (h : x = 0 ∨ x = 1) : vp_nar .boolean x = x := sorry
theorem bR3_e (b : Nat) (z : MV) : bR3 b z = bR4 b (up (p_digits (p_word z 3) 0 999999).2 28 b (p_digits (p_word z 3) 0 999999).1) := sorry
theorem bR4_e (b : Nat) (z : MV) : bR4 b z = bR5 b (up (p_digits (p_word z 4) 1 40).2 29 b (p_digits (p_word z 4) 1 40).1) := sorry
theorem bR5_e (b : Nat) (z : MV) : bR5 b z = bR6 b (up (p_digits (p_word z 5) 0 999).2 30 b (p_digits (p_word z 5) 0 999).1) := sorry
theorem bR6_e (b : Nat) (z : MV) : bR6 b z = bR7 b (up (p_digits (p_word z 6) 1 6).2 31 b (p_digits (p_word z 6) 1 6).1) := sorry
theorem bR7_e (b : Nat) (z : MV) : bR7 b z = bR8 b (up (p_accept z 7).2 32 b (p_accept z 7).1) := sorry
theorem bR8_e (b : Nat) (z : MV) : bR8 b z = bR9 b (p_accept z 8).2 (p_accept z 8).1 := sorry
theorem bR9_1 {b : Nat} {z : MV} {x : Int32} (hx : ¬ x = 0) (hf : p_failed z = 0) : bR9 b z x = up (up z 33 b x) 26 0 (nI (b + 1)) := sorry
theorem bR9_0 {b : Nat} {z : MV} (hf : p_failed (p_word (up z 33 b 0) 9) = 0) : bR9 b z 0 = up (p_word (up z 33 b 0) 9) 26 0 (nI (b + 1)) := sorry
theorem bR9_x {b : Nat} {z y : MV} (hf : Fl y (p_word (up z 33 b 0) 9)) : Fl y (bR9 b z 0) := sorry
/-- a number that was taken lies in its range -/
theorem dig_in (h : p_failed z = 0) (h2 : p_failed (p_digits z lo hi).2 = 0) : lo ≤ (p_digits z lo hi).1 ∧ (p_digits z lo hi).1 ≤ hi := sorry
theorem in_N {x lo hi : Int32} {a b : Nat} (h : lo ≤ x ∧ x ≤ hi) (hl : lo = nI a) (hh : hi = nI b) (ha : a < 10000000) (hb : b < 10000000) : inN x a b := sorry
end STG
section PKD
variable {u : MV} {t : Nat → Int32} {pt : Nat}
theorem PR.len (h : PR u t pt) : sk t pt ≤ we t (sk t pt) ∧ we t (sk t pt) ≤ 601 := sorry
theorem pkd_0 (h : PR u t pt) (c : p_inRange (nI (we t (sk t pt) - sk t pt)) 1 6 = 0) : (p_packed u).2 = p_fail (up u 22 0 (nI (sk t pt))) 1 (nI (sk t pt)) := sorry
theorem pkd_1 (h : PR u t pt) (c : ¬ p_inRange (nI (we t (sk t pt) - sk t pt)) 1 6 = 0) : p_packed u = (pkF t (sk t pt) (we t (sk t pt) - sk t pt), up u 22 0 (nI (sk t pt))) ∧ 1 ≤ we t (sk t pt) - sk t pt ∧ we t (sk t pt) - sk t pt ≤ 6 := sorry
/-- the letters of the word at hand -/
theorem let_w {tf sf : Nat → Int32} {sz a : Nat} (hz : sz ≤ 600) (hb : byF tf) (ha : a ≤ 601) (hw : we (bt tf sz) a ≤ 601) (hs : ∀ j, j < we (bt tf sz) a - a → sf j = tf (a + j)) : letF sf (we (bt tf sz) a - a) ∧ ∀ j, j < we (bt tf sz) a - a → bt tf sz (a + j) = sf j := sorry
theorem Fl.mo {y u0 : MV} {its : Int64} {k : Nat} (h : Fl y (blN u0 its k)) : ∀ n, k ≤ n → Fl y (blN u0 its n) := sorry
end PKD

