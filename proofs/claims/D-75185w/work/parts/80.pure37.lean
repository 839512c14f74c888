/-! runs: the numbers behind each printing, and behind all -/
set_option maxRecDepth 100000
/-- a gap begins within the web -/
theorem begs_rng {m : MV} {p : Int32} (h : rollOK (m.1 1)) (hb : bgOK m) (h0 : -1000000 ≤ p) (hg : ¬ p_beginsGap m p = 0) : 1 ≤ p ∧ p ≤ p_end m := sorry
theorem gn_rng {m : MV} {e : Int32} (h : rollOK (m.1 1)) (hb : bgOK m) (e0 : -900000 ≤ e) (e1 : e ≤ 900000) : ∀ n i, i + n ≤ 2000 → gnR m e n i = -1 ∨ (1 ≤ gnR m e n i ∧ gnR m e n i ≤ p_end m) := sorry
theorem feed_2 {m : MV} {a : Int32} (s0 : 0 ≤ (m.1 5 0).toInt) (s1 : (m.1 5 0).toInt ≤ 1000) (a0 : -1000000 ≤ a.toInt) (a1 : a.toInt ≤ 65000) (h0 : 0 ≤ (m.1 1 2).toInt) (h1 : (m.1 1 2).toInt ≤ 70000) : 0 ≤ ((p_feedsTo m a).1 1 2).toInt ∧ ((p_feedsTo m a).1 1 2).toInt ≤ 70000 := sorry
theorem bnd_prints {u v : MV} {sg rl bg : Nat → Int32} {z : Nat} (H : prH u v sg rl bg z) (htol : inN (u.1 7 0) 0 500) : bnd ((p_prints u z).2.1 1) := sorry
