/-! a run: what holds at each turn, and at its end -/
set_option maxRecDepth 100000
def rnI (m u v : MV) (sg rl bg : Nat → Int32) (L : List (Nat × Nat)) : Prop := CX u sg rl bg ∧ RS (u.1 1) v ∧ bnd (u.1 1) ∧ liR (u.1 1) L ∧ u.1 1 16 = 0 ∧ u.1 1 15 = 0 ∧ u.1 1 9 = 1 ∧ (∀ a j, a ≠ 1 → u.1 a j = m.1 a j)
def runH (m : MV) : Prop := (0 ≤ m.1 5 0 ∧ m.1 5 0 ≤ 1000) ∧ inN (m.1 7 0) 0 500 ∧ (0 ≤ m.1 6 0 ∧ m.1 6 0 ≤ 1000)
theorem rnI_pr {m u v : MV} {sg rl bg : Nat → Int32} {L : List (Nat × Nat)} {z : Nat} (hm : runH m) (h : rnI m u v sg rl bg L) (hz : z < 240) : prH u v sg rl bg z := sorry
theorem rnS_z {u : MV} {z : Nat} (hz : z < 240) (hn : p_next u = nI z) : rnS u = up (p_prints u z).2 1 15 (p_prints u z).1 := sorry
theorem pr_15 {u : MV} {z : Nat} : (p_prints u z).2.1 1 15 = u.1 1 15 := sorry
theorem pa_0 {sg rl bg : Nat → Int32} {v : MV} {z : Nat} (hc : (p_SprintAt sg rl bg v z).1 = 0) : (paD sg rl bg v z).1 = 0 := sorry
theorem rn_ok {m u v : MV} {sg rl bg : Nat → Int32} {L : List (Nat × Nat)} {z : Nat} (hm : runH m) (h : rnI m u v sg rl bg L) (hz : z < 240) (hn : p_next u = nI z) (hc : (p_SprintAt sg rl bg v z).1 = 0) : rnI m (rnS u) (p_Sprint sg rl bg v z).2 sg rl bg L.tail := sorry
/-- the end of a run: with the web fed for tearing off, or without -/
def runF (b : Nat) (x : MV) : MV := if p_isReadyNow x = 0 then x else if nI b ≤ (0 : Int32) then x else p_feedsTo x (p_tear x)
theorem runs_d {m : MV} {n b : Nat} {u : MV} (e : rnL n 0 (up (up m 1 15 0) 1 16 0) = (b, u)) : p_runs m n = (u.1 1 21 - m.1 1 21, runF b (if u.1 1 15 = 2 then up u 1 9 0 else if u.1 1 15 = 3 then up u 1 9 0 else up u 1 9 1)) := sorry
theorem runs_b {m : MV} {n b : Nat} {u : MV} (e : rnL n 0 (up (up m 1 15 0) 1 16 0) = (b, u)) (h : u.1 1 15 = 2 ∨ u.1 1 15 = 3) : p_runs m n = (u.1 1 21 - m.1 1 21, up u 1 9 0) := sorry
theorem runs_a {m : MV} {n b : Nat} {u : MV} (e : rnL n 0 (up (up m 1 15 0) 1 16 0) = (b, u)) (h : ¬ u.1 1 15 = 2) (h3 : ¬ u.1 1 15 = 3) (hb : b < 1000) : p_runs m n = (u.1 1 21 - m.1 1 21, if b = 0 then up u 1 9 1 else p_feedsTo (up u 1 9 1) (p_tear (up u 1 9 1))) := sorry
theorem half_b {g : Nat} (hg : g ≤ 1000) : 0 ≤ (nI g / 2).toInt ∧ (nI g / 2).toInt ≤ 1000 := sorry
theorem tear_b {x : MV} (hb : bnd (x.1 1)) (e0 : 0 ≤ x.1 6 0) (e1 : x.1 6 0 ≤ 1000) : -1000 ≤ (p_tear x).toInt ∧ (p_tear x).toInt ≤ 51000 := sorry
theorem tear_eq {x v : MV} {sg : Nat → Int32} (h : RS (x.1 1) v) (hs : sg 2 = x.1 6 0) : p_StearPlace sg v = p_tear x := sorry
theorem fin_feed {x v : MV} {sg : Nat → Int32} (h : RS (x.1 1) v) (hb : bnd (x.1 1)) (hs1 : sg 1 = x.1 5 0) (hs2 : sg 2 = x.1 6 0) (s : 0 ≤ x.1 5 0 ∧ x.1 5 0 ≤ 1000) (e : 0 ≤ x.1 6 0 ∧ x.1 6 0 ≤ 1000) : RS ((p_feedsTo x (p_tear x)).1 1) (p_SfeedTo sg v (p_StearPlace sg v)) := sorry
theorem feed_li {x : MV} {a : Int32} {L : List (Nat × Nat)} (h : liR (x.1 1) L) : liR ((p_feedsTo x a).1 1) L := sorry
theorem upd_li {r : Nat → Int32} {j : Nat} {x : Int32} {L : List (Nat × Nat)} (h : liR r L) (hj : j < 18) : liR (upd r j x) L := sorry
theorem upd_id {r : Nat → Int32} {j : Nat} {x : Int32} (h : x = r j) : upd r j x = r := sorry
/-- the end without a trouble -/
theorem run_n {m u v : MV} {sg rl bg : Nat → Int32} {L : List (Nat × Nat)} {n b : Nat} (hm : runH m) (h : rnI m u v sg rl bg L) (e : rnL n 0 (up (up m 1 15 0) 1 16 0) = (b, u)) (hb : b < 1000) : (p_runs m n).1 = v.1 17 1 - m.1 1 21 ∧ RS ((p_runs m n).2.1 1) (if b = 0 then v else p_SfeedTo sg v (p_StearPlace sg v)) ∧ liR ((p_runs m n).2.1 1) L := sorry
/-- the end by a trouble c; cs: its cause -/
theorem run_x {m u v : MV} {sg rl bg : Nat → Int32} {L : List (Nat × Nat)} {n b z s : Nat} {c cs : Int32} (hm : runH m) (h : rnI m u v sg rl bg L) (hz : z < 240) (hn : p_next u = nI z) (hc : (p_SprintAt sg rl bg v z).1 = c) (hc0 : ¬ c = 0) (hcs : cs = if c = 3 then (paD sg rl bg v z).1 else 0) (e : rnL n 0 (up (up m 1 15 0) 1 16 0) = (b, rnS u)) (hb : b < 1000) (hb0 : ¬ b = 0) :
    (p_runs m n).1 = (p_Sprint sg rl bg v z).2.1 17 1 - m.1 1 21 ∧ liR ((p_runs m n).2.1 1) (paL (paD sg rl bg v z).1 (m.1 17 (z / 40)) s z L.tail) ∧
    (c = 2 ∨ c = 3 → RS ((p_runs m n).2.1 1) (up (up (up (p_Sprint sg rl bg v z).2 4 0 c) 9 0 0) 5 0 cs)) ∧
    (¬ c = 2 → ¬ c = 3 → RS ((p_runs m n).2.1 1) (p_SfeedTo sg (up (up (p_Sprint sg rl bg v z).2 4 0 c) 5 0 cs) (p_StearPlace sg (up (up (p_Sprint sg rl bg v z).2 4 0 c) 5 0 cs)))) := sorry
theorem next_c2 {u w : MV} (h1 : u.1 1 = w.1 1) (h10 : u.1 10 0 = w.1 10 0) (h13 : ∀ b, u.1 13 b = w.1 13 b) : p_next u = p_next w := sorry
