/-! a run and a learning in the model alone: what holds behind them -/
set_option maxRecDepth 100000
theorem feed_m2 (v : MV) (a : Int32) : (p_feedsTo v a).2 = v.2 := sorry
theorem dtS_m2 (u : MV) (i : Nat) : (dtS u i).2 = u.2 := sorry
theorem dtR_m2 : ∀ (n i : Nat) (u : MV), (dtR n i u).2.2 = u.2 := sorry
theorem logs_m2 (v : MV) (z : Nat) (a : Int32) : (p_logs v z a).2 = v.2 := sorry
theorem puts_m2 (v : MV) (z : Nat) : (p_putsFirst v z).2 = v.2 := sorry
theorem prints_m2 (u : MV) (z : Nat) : (p_prints u z).2.2 = u.2 := sorry
theorem rnS_m2 (u : MV) : (rnS u).2 = u.2 := sorry
theorem rnS_f {u : MV} {a j : Nat} (h : a ≠ 1) : (rnS u).1 a j = u.1 a j := sorry
theorem rnL_f : ∀ (n b : Nat) (u : MV), (∀ a j, a ≠ 1 → (rnL n b u).2.1 a j = u.1 a j) ∧ (rnL n b u).2.2 = u.2 := sorry
theorem runF_f {b : Nat} {x : MV} : (∀ a j, a ≠ 1 → (runF b x).1 a j = x.1 a j) ∧ (runF b x).2 = x.2 := sorry
/-- the State behind the loop, its readiness set -/
theorem runs_c {m : MV} {n b : Nat} {u : MV} (e : rnL n 0 (up (up m 1 15 0) 1 16 0) = (b, u)) : ∃ c : Int32, (c = 0 ∨ c = 1) ∧ (p_runs m n).2 = runF b (up u 1 9 c) := sorry
theorem runs_f (m : MV) (n : Nat) : (∀ a j, a ≠ 1 → (p_runs m n).2.1 a j = m.1 a j) ∧ (p_runs m n).2.2 = m.2 := sorry
/-- what a run keeps of the row -/
def rmJ (j : Nat) : Prop := j = 0 ∨ (3 ≤ j ∧ j ≤ 7) ∨ (10 ≤ j ∧ j ≤ 13) ∨ (26 ≤ j ∧ j < 125)
def rmE (m u : MV) : Prop := bnd (u.1 1) ∧ u.1 1 9 = 1 ∧ (∀ a j, a ≠ 1 → u.1 a j = m.1 a j) ∧ (∀ j, rmJ j → u.1 1 j = m.1 1 j) ∧ ∃ L : List (Nat × Nat), liR (u.1 1) L ∧ (∀ x ∈ L, x.2 < 240 ∧ thR m x.2) ∧ (L.map Prod.snd).Nodup
theorem CX_of {u : MV} (h : rollOK (u.1 1)) (hb : bgOK u) : CX u (fun k => u.1 (4 + k) 0) (fun k => u.1 1 (3 + k)) (bgF (u.1 1)) := sorry
/-- the serial that comes next is there, and no other place of the list has it -/
theorem rm_next {m u : MV} {L : List (Nat × Nat)} (hB : batOK m) (hf : ∀ a j, a ≠ 1 → u.1 a j = m.1 a j) (hl : liR (u.1 1) L) (ht : ∀ x ∈ L, x.2 < 240 ∧ thR m x.2) (hd : (L.map Prod.snd).Nodup) (hn : ¬ p_next u = -1) : ∃ z, z < 240 ∧ p_next u = nI z ∧ thR m z ∧ ¬ z ∈ L.tail.map Prod.snd := sorry
theorem nd_tail {L : List (Nat × Nat)} (hd : (L.map Prod.snd).Nodup) : (L.tail.map Prod.snd).Nodup := sorry
theorem rm_step {m u : MV} (hr : rollOK (m.1 1)) (hb : bgOK m) (hm : runH m) (hB : batOK m) (h : rmE m u) (h16 : u.1 1 16 = 0) (hn : ¬ p_next u = -1) : rmE m (rnS u) ∧ ((rnS u).1 1 15 = 0 → (rnS u).1 1 16 = 0) := sorry
theorem rm_loop {m : MV} (hr : rollOK (m.1 1)) (hb : bgOK m) (hm : runH m) (hB : batOK m) : ∀ (n b : Nat) (u : MV), rmE m u → (u.1 1 15 = 0 → u.1 1 16 = 0) → rmE m (rnL n b u).2 := sorry
theorem runs_inv {m : MV} {L : List (Nat × Nat)} (hr : rollOK (m.1 1)) (hb : bgOK m) (hm : runH m) (hB : batOK m) (hbd : bnd (m.1 1)) (h9 : m.1 1 9 = 1) (hl : liR (m.1 1) L) (ht : ∀ x ∈ L, x.2 < 240 ∧ thR m x.2) (hd : (L.map Prod.snd).Nodup) (n : Nat) : bnd ((p_runs m n).2.1 1) ∧ (∀ j, rmJ j → (p_runs m n).2.1 1 j = m.1 1 j) ∧ ∃ L' : List (Nat × Nat), liR ((p_runs m n).2.1 1) L' ∧ (∀ x ∈ L', x.2 < 240 ∧ thR m x.2) ∧ (L'.map Prod.snd).Nodup := sorry
/-- the row tells which serials stand in the list -/
theorem liR_uniq {r : Nat → Int32} {L L' : List (Nat × Nat)} (h : liR r L) (h' : liR r L') (hz : ∀ x ∈ L, x.2 < 240) (hz' : ∀ x ∈ L', x.2 < 240) : L.map Prod.snd = L'.map Prod.snd := sorry
/-! learning -/
theorem lf_key {z : MV} (h : rollOK (z.1 1)) (hb : bgOK z) (hz : z.1 1 13 = 0 ∨ z.1 1 13 = 1) {f : Int32} (hf : fOK f) (hn : ¬ (lfN z f n700).2.2.1 = -1) : ∃ b0 e0 b1 bl el : Nat, b0 < e0 ∧ e0 ≤ b1 ∧ b1 < 700 ∧ bl < el ∧ el < 700 ∧ (lfN z f n700).1 = plc f b0 ∧ (lfN z f n700).2.1 = plc f e0 ∧ (lfN z f n700).2.2.1 = plc f b1 ∧ (lfN z f n700).2.2.2.2 = plc f el ∧ 1 ≤ (plc f bl).toInt ∧ (plc f bl).toInt ≤ 36000 := sorry
theorem fails_bnd {z : MV} {c : Int32} (hB : bnd (z.1 1)) : bnd ((p_fails z c).2.1 1) ∧ ((p_fails z c).2.1 1 9 = 1 → ¬ (p_fails z c).2.1 1 11 + (p_fails z c).2.1 1 12 = 0) := sorry
theorem pl_dif {f : Int32} {a b : Nat} (h : a ≤ b) (hb : b ≤ 1000) : plc f b - plc f a = nI (b - a) := sorry
theorem ns_I {a b c : Nat} (h1 : a ≤ b) (h2 : b ≤ c) (hc : c ≤ 1000) : nI (c - b) + nI (b - a) = nI (c - a) := sorry
theorem nz_I {n : Nat} (h : 0 < n) (hn : n ≤ 1000) : ¬ nI n = 0 := sorry
theorem lk_bnd {z : MV} (h : rollOK (z.1 1)) (hb : bgOK z) (hz : z.1 1 13 = 0 ∨ z.1 1 13 = 1) {f : Int32} (hf : fOK f) (hB : bnd (z.1 1)) (hp : (z.1 1 1).toInt ≤ 36000) (hS : 0 ≤ z.1 5 0 ∧ z.1 5 0 ≤ 1000) (a2 : Int32) : bnd ((p_looksForGaps z f a2).2.1 1) ∧ ((p_looksForGaps z f a2).2.1 1 9 = 1 → ¬ (p_looksForGaps z f a2).2.1 1 11 + (p_looksForGaps z f a2).2.1 1 12 = 0) := sorry
theorem learn_bnd {m : MV} (hr : rollOK (m.1 1)) (hbg : bgOK m) (hb : bnd (m.1 1)) (hS : 0 ≤ m.1 5 0 ∧ m.1 5 0 ≤ 1000) : bnd ((p_learns m).2.1 1) ∧ ((p_learns m).2.1 1 9 = 1 → ¬ (p_learns m).2.1 1 11 + (p_learns m).2.1 1 12 = 0) := sorry
theorem le_A {m v : MV} {sg rl bg : Nat → Int32} (hC : CX m sg rl bg) (hRS : RS (m.1 1) v) : leA sg (up v 4 0 0) = m.1 1 1 + m.1 5 0 := sorry
theorem le_F {m : MV} (hb : bnd (m.1 1)) (hS : 0 ≤ m.1 5 0 ∧ m.1 5 0 ≤ 1000) : -1000 ≤ (m.1 1 1 + m.1 5 0).toInt ∧ (m.1 1 1 + m.1 5 0).toInt ≤ 61000 := sorry
theorem le_A01 {m v : MV} {sg rl bg : Nat → Int32} (hC : CX m sg rl bg) (hRS : RS (m.1 1) v) (hb : bnd (m.1 1)) (hS : 0 ≤ m.1 5 0 ∧ m.1 5 0 ≤ 1000) : -1000000 ≤ leA sg (up v 4 0 0) ∧ leA sg (up v 4 0 0) ≤ 900000 := sorry
/-- the component's premise for a learning -/
theorem sl_ok {m v : MV} {sg rl bg : Nat → Int32} (hC : CX m sg rl bg) (hRS : RS (m.1 1) v) (hb : bnd (m.1 1)) (hS : 0 ≤ m.1 5 0 ∧ m.1 5 0 ≤ 1000) : slOK sg rl bg (up v 4 0 0) := sorry
