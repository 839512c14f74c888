/-! feeding, gaps, dots, synchronizing: the component's functions give what the model's give -/
set_option maxRecDepth 100000
/-- what stands around a State while it works: the model m, its row, the settings, the roll -/
def CX (m : MV) (sg rl bg : Nat → Int32) : Prop := rollOK (m.1 1) ∧ rlR (m.1 1) rl bg ∧ bgOK m ∧ sgR m sg
theorem light_b {m : MV} (h : rollOK (m.1 1)) (p : Int32) : 0 ≤ p_light m p ∧ p_light m p ≤ 255 := sorry
theorem isGap_eq {m v : MV} {sg rl bg : Nat → Int32} (hC : CX m sg rl bg) (h : RS (m.1 1) v) (hz : m.1 1 13 = 0 ∨ m.1 1 13 = 1) (p : Int32) : p_SisGap sg rl bg v p = p_isLikeGaps m p := sorry
theorem isBeg_eq {m v : MV} {sg rl bg : Nat → Int32} (hC : CX m sg rl bg) (h : RS (m.1 1) v) (hz : m.1 1 13 = 0 ∨ m.1 1 13 = 1) (p : Int32) : p_SisBeginning sg rl bg v p = p_beginsGap m p := sorry
theorem fw_2 (sg : Nat → Int32) (v : MV) : ∀ n, (fwN sg v n).1 2 0 = v.1 2 0 + nI n := sorry
theorem fw_ne (sg : Nat → Int32) (v : MV) {a j : Nat} (h : a ≠ 2 ∨ j ≠ 0) (h3 : a ≠ 3 ∨ j ≠ 0) : ∀ n, (fwN sg v n).1 a j = v.1 a j := sorry
theorem fw_3 (sg : Nat → Int32) (v : MV) (h0 : -1000000 ≤ v.1 2 0) (h1 : v.1 2 0 ≤ 1000000) (s0 : 0 ≤ sg 1) (s1 : sg 1 ≤ 1000) : ∀ n, n ≤ 1000000 → (fwN sg v (n + 1)).1 3 0 = if v.1 3 0 < v.1 2 0 + nI n + sg 1 then v.1 2 0 + nI n + sg 1 else v.1 3 0 := sorry
theorem gr_eq (a b : Int32) : p_greater a b = if a < b then b else a := sorry
theorem ls_eq (a b : Int32) : p_lesser a b = if b < a then b else a := sorry
theorem feed_r {m : MV} {a : Int32} : (p_feedsTo m a).1 1 = if a ≤ m.1 1 1 then upd (upd (m.1 1) 25 (m.1 1 25 + (m.1 1 1 - a))) 1 a else upd (upd (m.1 1) 2 (if m.1 1 2 < a - 1 + m.1 5 0 then a - 1 + m.1 5 0 else m.1 1 2)) 1 a := sorry
theorem feed_eq {m v : MV} {sg : Nat → Int32} {a : Int32} (h : RS (m.1 1) v) (hs : sg 1 = m.1 5 0) (hl : nx (m.1 1 19) ≤ 24) (p0 : -1000000 ≤ m.1 1 1) (p1 : m.1 1 1 ≤ 1000000) (a0 : -1000000 ≤ a) (a1 : a ≤ 1000000) (s0 : 0 ≤ m.1 5 0) (s1 : m.1 5 0 ≤ 1000) (hdd : a.toInt ≤ (m.1 1 1).toInt + 1000000) :
    RS ((p_feedsTo m a).1 1) (p_SfeedTo sg v a) := sorry
theorem fwd_eq {m v : MV} {sg : Nat → Int32} (h : RS (m.1 1) v) (hs : sg 1 = m.1 5 0) (p0 : -1000000 ≤ m.1 1 1) (p1 : m.1 1 1 ≤ 1000000) : RS ((p_feedsTo m (m.1 1 1 + 1)).1 1) (p_Sforward sg v) := sorry
theorem upd_same {f : Nat → Int32} {k : Nat} {x : Int32} (h : x = f k) : ∀ j, upd f k x j = f j := sorry
theorem end_feed {m : MV} {a : Int32} : p_end (p_feedsTo m a) = p_end m := sorry
theorem dots_eq {sg rl bg : Nat → Int32} (s0 : 0 ≤ sg 1) (M : Nat) (hM : M ≤ 100000) : ∀ (n i : Nat) (u w : MV) (P : Int32), RS (u.1 1) w → sg 1 = u.1 5 0 → sg 4 = u.1 8 0 → sg 5 = u.1 9 0 → p_Rend rl bg = p_end u → -1000000 ≤ P → P ≤ 900000 → n ≤ M → P ≤ u.1 1 1 → u.1 1 1 ≤ P + nI (M - n) →
    (pdR sg rl bg n i w).1 = (dtR n i u).1 ∧ RS ((dtR n i u).2.1 1) (pdR sg rl bg n i w).2 := sorry
/-- the first hit of the search for a gap -/
def hitI (m : MV) (e : Int32) (i : Nat) : Option Int32 := if ¬ m.1 1 2 < e - nI i ∧ ¬ p_beginsGap m (e - nI i) = 0 then some (e - nI i) else if ¬ m.1 1 2 < e + nI i ∧ ¬ p_beginsGap m (e + nI i) = 0 then some (e + nI i) else none
def fstH (m : MV) (e : Int32) : Nat → Nat → Option Int32
  | 0, _ => none
  | n + 1, i => match hitI m e i with | some x => some x | none => fstH m e n (i + 1)
theorem gn_fst (m : MV) (e : Int32) : ∀ n i, gnR m e n i = (fstH m e n i).getD (-1) := sorry
theorem fst_snoc (m : MV) (e : Int32) : ∀ n i, fstH m e (n + 1) i = match fstH m e n i with | some x => some x | none => hitI m e (i + n) := sorry
theorem sy_fst {m v : MV} {sg rl bg : Nat → Int32} (hC : CX m sg rl bg) (h : RS (m.1 1) v) (hz : m.1 1 13 = 0 ∨ m.1 1 13 = 1) (e : Int32) : ∀ r b, syN sg rl bg v e r b = (fstH m e r 0).getD b := sorry
theorem sync_eq {m v : MV} {sg rl bg : Nat → Int32} (hC : CX m sg rl bg) (h : RS (m.1 1) v) (hz : m.1 1 13 = 0 ∨ m.1 1 13 = 1) : syG sg rl bg v = p_gapNear m (m.1 1 14 + m.1 1 11) := sorry
