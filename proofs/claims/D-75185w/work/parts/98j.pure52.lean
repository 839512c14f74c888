/-! lines of the text by their words -/
set_option maxRecDepth 100000
def lP3 (z : MV) : MV := up (p_digits z 0 20).2 25 2 (p_digits z 0 20).1
def lP2 (z : MV) : MV := lP3 (up (p_digits z 0 200).2 25 1 (p_digits z 0 200).1)
def lP1 (z : MV) : MV := lP2 (up (p_digits z 21 200).2 25 0 (p_digits z 21 200).1)
def lA2 (z : MV) : MV := up (p_digits z 1 300).2 25 4 (p_digits z 1 300).1
def lA1 (z : MV) : MV := lA2 (up (p_digits z 0 300).2 25 3 (p_digits z 0 300).1)
theorem Fl.p3 {z y : MV} (h : Fl z y) : Fl z (lP3 y) := sorry
theorem Fl.p2 {z y : MV} (h : Fl z y) : Fl z (lP2 y) := sorry
theorem Fl.a2 {z y : MV} (h : Fl z y) : Fl z (lA2 y) := sorry
section LINES
variable {u : MV} {t : Nat → Int32} {pt : Nat}
/-- two words are not there at once -/
theorem isW_2 {i k : Nat} (hi : i < 10) (hk : k < 10) (hne : kLen.getD i 0 ≠ kLen.getD k 0 ∨ kch i 0 ≠ kch k 0) (h : ¬ p_isWord u i = 0) : p_isWord u k = 0 := sorry
theorem acc_id (h : PR u t pt) (hs : sk t pt = pt) {i : Nat} (c : p_isWord u i = 0) : (p_accept u i).2 = u := sorry
theorem line_u (h : PR u t pt) (hs : sk t pt = pt) : p_line u = if p_isWord u 2 = 0 then lnT u else (if nI (nx (u.1 26 0)) = 6 then p_fail u 4 (u.1 22 0) else lnT u) := sorry
theorem ln_p (h : PR u t pt) (hs : sk t pt = pt) (c : ¬ p_isWord u 0 = 0) : p_line u = lP1 (p_accept u 0).2 := sorry
theorem ln_a (h : PR u t pt) (hs : sk t pt = pt) (c : ¬ p_isWord u 1 = 0) : p_line u = lA1 (p_accept u 1).2 := sorry
theorem lnT_b (h : PR u t pt) (hs : sk t pt = pt) (c : ¬ p_isWord u 2 = 0) : lnT u = p_batchLine (p_accept u 2).2 := sorry
theorem ln_b (h : PR u t pt) (hs : sk t pt = pt) (c : ¬ p_isWord u 2 = 0) (h6 : ¬ nI (nx (u.1 26 0)) = 6) : p_line u = p_batchLine (p_accept u 2).2 := sorry
theorem ln_6 (h : PR u t pt) (hs : sk t pt = pt) (c : ¬ p_isWord u 2 = 0) (h6 : nI (nx (u.1 26 0)) = 6) : p_line u = p_fail u 4 (nI pt) := sorry
theorem ln_0 (h : PR u t pt) (hs : sk t pt = pt) (c0 : p_isWord u 0 = 0) (c1 : p_isWord u 1 = 0) (c2 : p_isWord u 2 = 0) : p_line u = p_fail u 1 (nI pt) := sorry
/-- the cells and slots that a line may take -/
def lnC (u : MV) : Nat × Nat := if p_failed (p_line u) = 0 then (if (p_line u).1 26 0 = u.1 26 0 then (20, 170) else (140, 1340)) else (140, 25200)
theorem lnC_f {u : MV} (h : ¬ p_failed (p_line u) = 0) : lnC u = (140, 25200) := sorry
theorem lnC_1 (u : MV) : 20 ≤ (lnC u).1 ∧ 170 ≤ (lnC u).2 ∧ (lnC u).1 ≤ 140 ∧ (lnC u).2 ≤ 25200 := sorry
theorem lnC_w (h : PR u t pt) (hs : sk t pt = pt) : 5 * (we t pt - pt) + 145 ≤ (lnC u).2 := sorry
theorem bl_26 {v : MV} (h : p_failed (p_batchLine v) = 0) : (p_batchLine v).1 26 0 = nI (nx (v.1 26 0) + 1) := sorry
theorem lnC_b (h : PR u t pt) (hs : sk t pt = pt) (c : ¬ p_isWord u 2 = 0) (h6 : nx (u.1 26 0) ≤ 5) (h26 : u.1 26 0 = nI (nx (u.1 26 0))) : ∃ B, bB B (p_batchLine (p_accept u 2).2) ∧ 130 ≤ (lnC u).1 ∧ 40 * B + 900 + 110 ≤ (lnC u).2 := sorry
/-- a line goes on by four bytes at least -/
theorem ln_adv (h : PR u t pt) (hs : sk t pt = pt) (hf : p_failed (p_line u) = 0) : pt + 4 ≤ skA (p_line u) := sorry
theorem hcd_c {f g : Nat → Int32} : ∀ {n : Nat}, (∀ j, j < n → f j = g j) → hcd f n = hcd g n := sorry
/-- the word's hash, if it is the word i -/
theorem hash_k {tf sf : Nat → Int32} {sz i : Nat} {H : Int32} (h : PR u (bt tf sz) pt) (hz : sz ≤ 600) (hb : byF tf) (hi : i < 10) (hs : ∀ j, j < we (bt tf sz) (sk (bt tf sz) pt) - sk (bt tf sz) pt → sf j = tf (sk (bt tf sz) pt + j)) (c : ¬ p_isWord u i = 0) (e : hcd (kb i) (kLen.getD i 0) = H) : hcd sf (we (bt tf sz) (sk (bt tf sz) pt) - sk (bt tf sz) pt) = H := sorry
theorem lk_none {x : Int32} (h0 : ¬ x = 3002509) (h1 : ¬ x = 93509434) (h2 : ¬ x = 106931267) : Op.lookupswitch.offset [(3002509, 48), (93509434, 63), (106931267, 33)] 75 x.toInt = 75 := sorry
end LINES
section TURNS
variable {u : MV} {t : Nat → Int32} {pt : Nat}
theorem ln_26 (h : PR u t pt) (hs : sk t pt = pt) (hf : p_failed (p_line u) = 0) : (p_line u).1 26 0 = u.1 26 0 ∨ (p_line u).1 26 0 = nI (nx (u.1 26 0) + 1) := sorry
theorem psB_f {z l : MV} (e : p_line (up z 22 0 (nI (skA z))) = l) (h : ¬ p_failed l = 0) : psB z = up l 22 0 (l.1 22 0 + 1) := sorry
theorem psB_n {z l : MV} (e : p_line (up z 22 0 (nI (skA z))) = l) (h : p_failed l = 0) (hb : ¬ p_byteAt l (skA l) = 59) : psB z = up (p_fail (up l 22 0 (nI (skA l))) 1 (nI (skA l))) 22 0 (nI (skA l + 1)) := sorry
theorem psB_y {z l : MV} (e : p_line (up z 22 0 (nI (skA z))) = l) (h : p_failed l = 0) (hb : p_byteAt l (skA l) = 59) : psB z = up l 22 0 (nI (skA l + 1)) := sorry
theorem psN_s {n : Nat} {z : MV} (h : p_failed z = 0) (hb : ¬ p_byteAt z (skA z) = -1) : psN (n + 1) z = psN n (psB z) := sorry
theorem psN_e {n : Nat} {z : MV} (h : p_failed z = 0) (hb : p_byteAt z (skA z) = -1) : psN (n + 1) z = up z 22 0 (nI (skA z)) := sorry
theorem in59 {x : Int32} : ¬ p_inRange x 59 59 = 0 ↔ x = 59 := sorry
theorem PRs.pr {z : MV} {t : Nat → Int32} {a : Nat} (h : PRs z t a) : PR (up z 22 0 (nI (sk t a))) t (sk t a) := sorry
theorem bt_m1 {tf : Nat → Int32} {sz k : Nat} (h : ¬ nI sz ≤ nI k) : ¬ bt tf sz k = -1 := sorry
/-- the room of one turn -/
theorem lnC_t {v : MV} {nb : Nat} (h : p_failed (p_line v) = 0) (hn : nb = nx (v.1 26 0)) (hn6 : nb ≤ 6) (h26 : (p_line v).1 26 0 = v.1 26 0 ∨ (p_line v).1 26 0 = nI (nx (v.1 26 0) + 1)) : (lnC v).1 + 1 ≤ 25 + 150 * (nx ((p_line v).1 26 0) - nb) ∧ (lnC v).2 + 8 ≤ 200 + 1360 * (nx ((p_line v).1 26 0) - nb) ∧ nb ≤ nx ((p_line v).1 26 0) := sorry
end TURNS

