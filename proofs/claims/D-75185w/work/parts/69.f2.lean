set_option maxRecDepth 100000
/-- from the beginning nx on: found, latest, next -/
def fpL (sg rl bg : Nat → Int32) (v : MV) (t : Int32) : Nat → Int32 → Int32 → Int32 → Int32 → Int32 × Int32 × Int32
  | 0, _, f, l, x => (f, l, x)
  | n + 1, p, f, l, x => if t < p then (f, l, x) else
      if t < p_Sbehind sg rl bg v p t then fpL sg rl bg v t n (p_seek sg rl bg v t (p + 1)) f l (if ¬ f = -1 ∧ x = -1 then p else x)
      else fpL sg rl bg v t n (p_seek sg rl bg v t (p + 1)) (if f = -1 then p else f) p (if ¬ f = -1 ∧ x = -1 then p else x)
noncomputable def fpR (sg rl bg : Nat → Int32) (v : MV) (a1 a2 : Int32) : Int32 × Int32 × Int32 := fpL sg rl bg v a2 n700 (p_seek sg rl bg v a2 (a1 - 1 + 1)) (-1) (-1) (-1)
noncomputable def p_SfindPitch (sg rl bg : Nat → Int32) (v : MV) (a1 a2 : Int32) : Int32 × MV :=
  if (fpR sg rl bg v a1 a2).2.2 = -1 then (3, v) else
  (0, up (up (up v 13 0 (p_Sbehind sg rl bg v (fpR sg rl bg v a1 a2).1 a2 - (fpR sg rl bg v a1 a2).1)) 12 0 ((fpR sg rl bg v a1 a2).2.2 - (fpR sg rl bg v a1 a2).1 - (p_Sbehind sg rl bg v (fpR sg rl bg v a1 a2).1 a2 - (fpR sg rl bg v a1 a2).1))) 14 0
     (p_Sbehind sg rl bg (up (up v 13 0 (p_Sbehind sg rl bg v (fpR sg rl bg v a1 a2).1 a2 - (fpR sg rl bg v a1 a2).1)) 12 0 ((fpR sg rl bg v a1 a2).2.2 - (fpR sg rl bg v a1 a2).1 - (p_Sbehind sg rl bg v (fpR sg rl bg v a1 a2).1 a2 - (fpR sg rl bg v a1 a2).1))) (fpR sg rl bg v a1 a2).2.1 a2))
theorem bds_pos {b p : Int32} (h : 0 < bds b p) : p ≤ b := sorry
theorem bg_le (sg rl bg : Nat → Int32) (v : MV) {t : Int32} (ht : t ≤ 1000000) : ∀ (n : Nat) (p : Int32), n ≤ bds t p → bds t (bgN sg rl bg v n p) ≤ bds t p := sorry
theorem seek_le (sg rl bg : Nat → Int32) (v : MV) {t : Int32} (ht : t ≤ 1000000) (p : Int32) : bds t (p_seek sg rl bg v t p) ≤ bds t p := sorry
theorem fp_end (sg rl bg : Nat → Int32) (v : MV) {t p f l x : Int32} (n : Nat) (h : t < p) : fpL sg rl bg v t n p f l x = (f, l, x) := sorry
theorem fp_step (sg rl bg : Nat → Int32) (v : MV) {t p f l x : Int32} {n : Nat} (ht : t ≤ 1000000) (h : ¬ t < p) (hn : bds t p ≤ n) : ∃ m, n = m + 1 ∧ bds t (p_seek sg rl bg v t (p + 1)) ≤ m ∧ bds t (p_seek sg rl bg v t (p + 1)) < bds t p := sorry
set_option maxHeartbeats 4000000 in
theorem w_SfindPitch (X : xT) (ad : Nat → Nat) (dv sg rl bg : Nat → Int32) (v : MV) (a1 a2 : Int32) (hR : rlOK rl bg) (hb2 : a2 ≤ 1000000) (hbd0 : bds a2 (a1 - 1 + 1) ≤ 700) : CT X ad dv sg rl bg yX3_findPitch cX3_findPitch 8 9 702 711 [.int a1, .int a2] v (p_SfindPitch sg rl bg v a1 a2).1 (p_SfindPitch sg rl bg v a1 a2).2 none := sorry
def leF (rl bg : Nat → Int32) (v : MV) : Int32 := if 0 < (if p_Rend rl bg - v.1 2 0 < 700 then p_Rend rl bg - v.1 2 0 else 700) then (if p_Rend rl bg - v.1 2 0 < 700 then p_Rend rl bg - v.1 2 0 else 700) else 0
def leU (sg rl bg : Nat → Int32) (v : MV) : MV := p_SfeedTo sg (up v 9 0 0) (v.1 2 0 + leF rl bg v)
def leA (sg : Nat → Int32) (v : MV) : Int32 := p_SunderSensor sg (up v 9 0 0)
noncomputable def leT (sg rl bg : Nat → Int32) (v : MV) : Int32 × MV := p_SsetThreshold sg rl bg (leU sg rl bg v) (leA sg v) (leA sg v + 700 - 1)
noncomputable def leP (sg rl bg : Nat → Int32) (v : MV) : Int32 × MV := p_SfindPitch sg rl bg (leT sg rl bg v).2 (leA sg v) (leA sg v + 700 - 1)
noncomputable def leW (sg rl bg : Nat → Int32) (v : MV) : MV := up (leP sg rl bg v).2 14 0 (p_adv ((leP sg rl bg v).2.1 2 0) ((leP sg rl bg v).2.1 12 0 + (leP sg rl bg v).2.1 13 0) ((leP sg rl bg v).2.1 14 0))
noncomputable def p_Slearn (sg rl bg : Nat → Int32) (v : MV) : Int32 × MV :=
  if leF rl bg v < 700 then (2, leU sg rl bg v) else
  if ¬ (leT sg rl bg v).1 = 0 then ((leT sg rl bg v).1, (leT sg rl bg v).2) else
  if ¬ (leP sg rl bg v).1 = 0 then ((leP sg rl bg v).1, (leP sg rl bg v).2) else
  (0, up (p_SfeedTo sg (leW sg rl bg v) ((leW sg rl bg v).1 14 0)) 9 0 1)
/-- what learning finds lies in the small -/
def slOK (sg rl bg : Nat → Int32) (v : MV) : Prop := (leP sg rl bg v).1 = 0 → 0 < (leP sg rl bg v).2.1 12 0 + (leP sg rl bg v).2.1 13 0 ∧ (leP sg rl bg v).2.1 12 0 + (leP sg rl bg v).2.1 13 0 ≤ 1000000 ∧ -1000000 ≤ (leP sg rl bg v).2.1 14 0 ∧ (leP sg rl bg v).2.1 2 0 ≤ 1000000
theorem up_same {v : MV} {f i : Nat} {x : Int32} (h : v.1 f i = x) : up v f i x = v := sorry
theorem up_2 {v : MV} {f i : Nat} {x y : Int32} : up (up v f i x) f i y = up v f i y := sorry
theorem bds_700 {a : Int32} (h0 : -1000000 ≤ a) (h1 : a ≤ 1000000) : bds (a + 700 - 1) (a - 1 + 1) ≤ 700 := sorry
set_option maxHeartbeats 4000000 in
theorem w_Slearn (X : xT) (ad : Nat → Nat) (dv sg rl bg : Nat → Int32) (v : MV) (hR : rlOK rl bg) (hA0 : -1000000 ≤ leA sg v) (hA1 : leA sg v ≤ 900000) (hs : slOK sg rl bg v) : CT X ad dv sg rl bg yX3_learn cX3_learn 4 10 703 718 [] v (p_Slearn sg rl bg v).1 (p_Slearn sg rl bg v).2 none := sorry
