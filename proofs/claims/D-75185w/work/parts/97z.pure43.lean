/-! one learning of the component = the model's, to its end -/
set_option maxRecDepth 100000
theorem leF_eq {m u : MV} {rl bg : Nat → Int32} (he : p_Rend rl bg = p_end m) (h2 : u.1 2 0 = m.1 1 1) : leF rl bg u = p_lesser 700 (p_greater 0 (p_end m - m.1 1 1)) := sorry
theorem lmin_eq {m : MV} {rl bg : Nat → Int32} (hl : ∀ p, p_RlightAt rl bg p = p_light m p) (hr : rollOK (m.1 1)) (f : Int32) : ∀ n, lmin m f (n + 1) = sMin rl bg f (n + 1) := sorry
theorem lmax_eq {m : MV} {rl bg : Nat → Int32} (hl : ∀ p, p_RlightAt rl bg p = p_light m p) (hr : rollOK (m.1 1)) (f : Int32) : ∀ n, lmax m f (n + 1) = sMax rl bg f (n + 1) := sorry
theorem lcnt_eq {m : MV} {rl bg : Nat → Int32} {t : Int32} (hl : ∀ p, p_RlightAt rl bg p = p_light m p) (ht : m.1 1 10 = t) (f : Int32) : ∀ n, lcnt m f n = sCnt rl bg t f n := sorry
theorem n700_s : n700 = 699 + 1 := sorry
theorem feed_c {m u : MV} {a : Int32} (h1 : u.1 1 1 = m.1 1 1) (h2 : u.1 1 2 = m.1 1 2) (h25 : u.1 1 25 = m.1 1 25) (h5 : u.1 5 0 = m.1 5 0) {j : Nat} (hj : u.1 1 j = m.1 1 j) : (p_feedsTo u a).1 1 j = (p_feedsTo m a).1 1 j := sorry
theorem feed_1 {m : MV} {a : Int32} : (p_feedsTo m a).1 1 1 = a := sorry
/-- the model with no trouble, not ready -/
def lm0 (m : MV) : MV := up (up m 1 15 0) 1 9 0
theorem lm0_ne {m : MV} {a j : Nat} (h : a ≠ 1 ∨ (j ≠ 9 ∧ j ≠ 15)) : (lm0 m).1 a j = m.1 a j := sorry
theorem lm0_RS {m v : MV} (h : RS (m.1 1) v) : RS ((lm0 m).1 1) (up (up v 4 0 0) 9 0 0) := sorry
theorem lm0_CX {m : MV} {sg rl bg : Nat → Int32} (h : CX m sg rl bg) : CX (lm0 m) sg rl bg := sorry
theorem rowE {a b : Nat → Int32} (h : ∀ j, j ≠ 9 → j ≠ 15 → a j = b j) (x y : Int32) (j : Nat) : upd (upd a 15 x) 9 y j = upd (upd b 15 x) 9 y j := sorry
theorem kk_b {m : MV} (hC : rollOK (m.1 1)) (hbg : bgOK m) (hb : bnd (m.1 1)) : 0 ≤ p_lesser 700 (p_greater 0 (p_end m - m.1 1 1)) ∧ p_lesser 700 (p_greater 0 (p_end m - m.1 1 1)) ≤ 700 := sorry
/-- the State and the model behind the feeding of a learning -/
theorem le_feed {m v : MV} {sg rl bg : Nat → Int32} (hC : CX m sg rl bg) (hRS : RS (m.1 1) v) (hb : bnd (m.1 1)) (hS : 0 ≤ m.1 5 0 ∧ m.1 5 0 ≤ 1000) : RS ((p_feedsTo (lm0 m) (m.1 1 1 + p_lesser 700 (p_greater 0 (p_end m - m.1 1 1)))).1 1) (leU sg rl bg (up v 4 0 0)) := sorry
theorem le_rows {m : MV} {a : Int32} : ∀ j, j ≠ 9 → j ≠ 15 → (p_feedsTo m a).1 1 j = (p_feedsTo (lm0 m) a).1 1 j := sorry
/-- the web is too short, or without contrast, or no gap was found: the row with the trouble c -/
theorem le_fail {U : MV} {r : Nat → Int32} {w : MV} {c : Int32} (h : RS r w) (he : ∀ j, j ≠ 9 → j ≠ 15 → U.1 1 j = r j) : RS ((p_fails U c).2.1 1) (up (up w 4 0 c) 9 0 0) := sorry
theorem adv_rng {pos pit : Int32} (hp : 0 < pit.toInt) (hp2 : pit.toInt ≤ 1000) (hq : -1000000 ≤ pos.toInt) (hq2 : pos.toInt ≤ 500000) : ∀ (n : Nat) (f : Int32), -1000000 ≤ f.toInt → f.toInt ≤ 600000 → f.toInt ≤ (adv pos pit n f).toInt ∧ ((adv pos pit n f).toInt ≤ f.toInt ∨ (adv pos pit n f).toInt ≤ pos.toInt + pit.toInt) := sorry
/-- behind the threshold: the search. w, U0: the State and its row; U1: the model, as U0 but for 9 and 15 -/
theorem le_find {U1 U0 w : MV} {sg rl bg : Nat → Int32} {F thr g : Int32} (hCU : CX U1 sg rl bg) (hC0 : CX U0 sg rl bg) (hU : RS (U0.1 1) w) (hrow : ∀ j, j ≠ 9 → j ≠ 15 → U1.1 1 j = U0.1 1 j) (h15 : U0.1 1 15 = 0) (hg : g = 0 ∨ g = 1) (hF : -2000 ≤ F ∧ F ≤ 70000) (hP : -2000 ≤ U1.1 1 1 ∧ U1.1 1 1 ≤ 70000) (hS : 0 ≤ U1.1 5 0 ∧ U1.1 5 0 ≤ 1000) (h5 : U0.1 5 0 = U1.1 5 0) (h24 : nx (U0.1 1 19) ≤ 24) (a2 : Int32) :
    ((p_SfindPitch sg rl bg (up (up w 11 0 thr) 10 0 g) F (F + 700 - 1)) = (3, up (up w 11 0 thr) 10 0 g) ∧ (p_looksForGaps (up (up U1 1 10 thr) 1 13 g) F a2).1 = 3 ∧ RS ((p_looksForGaps (up (up U1 1 10 thr) 1 13 g) F a2).2.1 1) (up (up (up (up w 11 0 thr) 10 0 g) 4 0 3) 9 0 0)) ∨
    ((p_SfindPitch sg rl bg (up (up w 11 0 thr) 10 0 g) F (F + 700 - 1)).1 = 0 ∧ (p_looksForGaps (up (up U1 1 10 thr) 1 13 g) F a2).1 = 0 ∧ ∀ W : MV, W = (p_SfindPitch sg rl bg (up (up w 11 0 thr) 10 0 g) F (F + 700 - 1)).2 → ∀ WW : MV, WW = up W 14 0 (p_adv (W.1 2 0) (W.1 12 0 + W.1 13 0) (W.1 14 0)) → RS ((p_looksForGaps (up (up U1 1 10 thr) 1 13 g) F a2).2.1 1) (up (p_SfeedTo sg WW (WW.1 14 0)) 9 0 1)) := sorry
theorem lg_15 {z : MV} {a b : Int32} : (p_looksForGaps z a b).1 = 0 → (p_looksForGaps z a b).2.1 1 15 = 0 := sorry
theorem learn_eq {m v : MV} {sg rl bg : Nat → Int32} (hC : CX m sg rl bg) (hRS : RS (m.1 1) v) (hb : bnd (m.1 1)) (hS : 0 ≤ m.1 5 0 ∧ m.1 5 0 ≤ 1000) : RS ((p_learns m).2.1 1) (lnV sg rl bg (up v 4 0 0)) ∧ (p_learns m).1 = (lnV sg rl bg (up v 4 0 0)).1 4 0 := sorry
