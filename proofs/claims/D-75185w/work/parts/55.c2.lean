set_option maxRecDepth 100000
theorem thr_ne {c : Int32} {w : MV} {p : Int32 × MV} (h : p = (c, w)) (hc : ¬ c = 0) : ¬ p.1 = 0 := sorry
theorem pm1 (k : Nat) : nI k + (-1) + 1 = nI k := sorry
def bds (b p : Int32) : Nat := (b.toInt + 1 - p.toInt).toNat
theorem bds_s {b p : Int32} (hb : b ≤ 1000000) (h : p ≤ b) : bds b p = bds b (p + 1) + 1 := sorry
/-- the place behind a gap: n steps at most from p on -/
def bhN (sg rl bg : Nat → Int32) (v : MV) (b : Int32) : Nat → Int32 → Int32
  | 0, p => p
  | n + 1, p => if p_SisGap sg rl bg v p = 0 then p else bhN sg rl bg v b n (p + 1)
def p_Sbehind (sg rl bg : Nat → Int32) (v : MV) (a1 a2 : Int32) : Int32 := bhN sg rl bg v a2 (bds a2 a1) a1
theorem bds_0 {b p : Int32} (h : b < p) : bds b p = 0 := sorry
set_option maxHeartbeats 4000000 in
theorem w_Sbehind (X : xT) (ad : Nat → Nat) (dv sg rl bg : Nat → Int32) (v : MV) (a1 : Int32) (a2 : Int32)  (hR : rlOK rl bg) (hb2 : a2 ≤ 1000000) : CR X ad dv sg rl bg yX3_behind cX3_behind 4 (some .int) 4 [.int a1, .int a2] v (some (.int (p_Sbehind sg rl bg v a1 a2))) v := sorry
def pdI (sg : Nat → Int32) (i : Nat) : Int32 := p_Din (nI i).toInt64 (sg 4).toInt64 ((sg 4 + sg 5 - 1).toInt64)
def pdS (sg : Nat → Int32) (u : MV) (i : Nat) : MV := if pdI sg i = 0 then p_Sforward sg u else p_Sforward sg (up (up u 1 0 (u.1 1 0 - 1)) 17 4 (u.1 17 4 + 1))
def pdR (sg rl bg : Nat → Int32) : Nat → Nat → MV → Int32 × MV
  | 0, _, u => (0, u)
  | n + 1, i, u => if p_Rend rl bg ≤ u.1 2 0 then (2, u) else if ¬ pdI sg i = 0 ∧ u.1 1 0 = 0 then (1, u) else pdR sg rl bg n (i + 1) (pdS sg u i)
def p_SprintDots (sg rl bg : Nat → Int32) (v : MV) : Int32 × MV := pdR sg rl bg (nx (v.1 12 0)) 0 v
theorem fr_pdS (sg : Nat → Int32) (u : MV) (i a j : Nat) (h : (a ≠ 1 ∨ j ≠ 0) ∧ (a ≠ 2 ∨ j ≠ 0) ∧ (a ≠ 3 ∨ j ≠ 0) ∧ (a ≠ 17 ∨ j ≠ 4)) : (pdS sg u i).1 a j = u.1 a j := sorry
theorem fr_pdR (sg rl bg : Nat → Int32) : ∀ (n i : Nat) (u : MV) (a j : Nat), ((a ≠ 1 ∨ j ≠ 0) ∧ (a ≠ 2 ∨ j ≠ 0) ∧ (a ≠ 3 ∨ j ≠ 0) ∧ (a ≠ 17 ∨ j ≠ 4)) → (pdR sg rl bg n i u).2.1 a j = u.1 a j := sorry
theorem fr_SprintDots (sg rl bg : Nat → Int32) (v : MV) (a j : Nat) (h : (a ≠ 1 ∨ j ≠ 0) ∧ (a ≠ 2 ∨ j ≠ 0) ∧ (a ≠ 3 ∨ j ≠ 0) ∧ (a ≠ 17 ∨ j ≠ 4)) : (p_SprintDots sg rl bg v).2.1 a j = v.1 a j := sorry
set_option maxHeartbeats 4000000 in
theorem w_SprintDots (X : xT) (ad : Nat → Nat) (dv sg rl bg : Nat → Int32) (v : MV)   (hR : rlOK rl bg) (hle : v.1 12 0 = nI (nx (v.1 12 0))) (hle1 : nx (v.1 12 0) ≤ 100000) : CT X ad dv sg rl bg yX3_printDots cX3_printDots 3 5 1 7 [] v (p_SprintDots sg rl bg v).1 (p_SprintDots sg rl bg v).2 none := sorry
def sMin (rl bg : Nat → Int32) (f : Int32) : Nat → Int32
  | 0 => 255
  | i + 1 => if p_RlightAt rl bg (f + nI i) < sMin rl bg f i then p_RlightAt rl bg (f + nI i) else sMin rl bg f i
def sMax (rl bg : Nat → Int32) (f : Int32) : Nat → Int32
  | 0 => 0
  | i + 1 => if sMax rl bg f i < p_RlightAt rl bg (f + nI i) then p_RlightAt rl bg (f + nI i) else sMax rl bg f i
def sCnt (rl bg : Nat → Int32) (t f : Int32) : Nat → Int32
  | 0 => 0
  | i + 1 => sCnt rl bg t f i + (if p_RlightAt rl bg (f + nI i) ≤ t then 0 else 1)
noncomputable def p_SsetThreshold (sg rl bg : Nat → Int32) (v : MV) (a1 a2 : Int32) : Int32 × MV :=
  if 20 ≤ sMax rl bg a1 n700 - sMin rl bg a1 n700 then
    (0, up (up v 11 0 ((sMin rl bg a1 n700 + sMax rl bg a1 n700) / 2)) 10 0 (if a2 - a1 + 1 < 2 * sCnt rl bg ((sMin rl bg a1 n700 + sMax rl bg a1 n700) / 2) a1 n700 then 0 else 1))
  else (4, v)
theorem fr_SsetThreshold (sg rl bg : Nat → Int32) (v : MV) (a1 a2 : Int32) (a j : Nat) (h : (a ≠ 10 ∨ j ≠ 0) ∧ (a ≠ 11 ∨ j ≠ 0)) : (p_SsetThreshold sg rl bg v a1 a2).2.1 a j = v.1 a j := sorry
theorem st_lt {a b : Int32} {i : Nat} (h0 : -1000000 ≤ a) (h1 : a ≤ 1000000) (hb : b = a + 699) (hi : i ≤ 1000000) : b < a + nI i ↔ 700 ≤ i := sorry
set_option maxHeartbeats 4000000 in
theorem w_SsetThreshold (X : xT) (ad : Nat → Nat) (dv sg rl bg : Nat → Int32) (v : MV) (a1 : Int32) (a2 : Int32)  (hR : rlOK rl bg) (hf0 : -1000000 ≤ a1) (hf1 : a1 ≤ 1000000) (hla : a2 = a1 + 699) : CT X ad dv sg rl bg yX3_setThreshold cX3_setThreshold 7 5 1 7 [.int a1, .int a2] v (p_SsetThreshold sg rl bg v a1 a2).1 (p_SsetThreshold sg rl bg v a1 a2).2 none := sorry
def syS (sg rl bg : Nat → Int32) (v : MV) (e f b : Int32) : Int32 :=
  if ¬ v.1 3 0 < e - f ∧ ¬ p_SisBeginning sg rl bg v (e - f) = 0 then e - f else if ¬ v.1 3 0 < e + f ∧ ¬ p_SisBeginning sg rl bg v (e + f) = 0 then e + f else b
theorem sy_a {sg rl bg : Nat → Int32} {v : MV} {e f b : Int32} (h1 : ¬ v.1 3 0 < e - f) (h2 : ¬ p_SisBeginning sg rl bg v (e - f) = 0) : syS sg rl bg v e f b = e - f := sorry
theorem sy_b {sg rl bg : Nat → Int32} {v : MV} {e f b : Int32} (h : v.1 3 0 < e - f ∨ p_SisBeginning sg rl bg v (e - f) = 0) (h1 : ¬ v.1 3 0 < e + f) (h2 : ¬ p_SisBeginning sg rl bg v (e + f) = 0) : syS sg rl bg v e f b = e + f := sorry
theorem sy_c {sg rl bg : Nat → Int32} {v : MV} {e f b : Int32} (h : v.1 3 0 < e - f ∨ p_SisBeginning sg rl bg v (e - f) = 0) (h2 : v.1 3 0 < e + f ∨ p_SisBeginning sg rl bg v (e + f) = 0) : syS sg rl bg v e f b = b := sorry
/-- the last r tries -/
def syN (sg rl bg : Nat → Int32) (v : MV) (e : Int32) : Nat → Int32 → Int32
  | 0, b => b
  | r + 1, b => syN sg rl bg v e r (syS sg rl bg v e (nI r) b)
def syG (sg rl bg : Nat → Int32) (v : MV) : Int32 := syN sg rl bg v (v.1 14 0 + v.1 12 0) (nx (sg 3) + 1) (-1)
def p_Ssync (sg rl bg : Nat → Int32) (v : MV) : Int32 × MV :=
  if syG sg rl bg v = -1 then (3, up v 6 0 0) else (0, up (up v 6 0 (syG sg rl bg v - (v.1 14 0 + v.1 12 0))) 14 0 (syG sg rl bg v + v.1 13 0))
theorem fr_Ssync (sg rl bg : Nat → Int32) (v : MV) (a j : Nat) (h : (a ≠ 6 ∨ j ≠ 0) ∧ (a ≠ 14 ∨ j ≠ 0)) : (p_Ssync sg rl bg v).2.1 a j = v.1 a j := sorry
set_option maxHeartbeats 4000000 in
theorem w_Ssync (X : xT) (ad : Nat → Nat) (dv sg rl bg : Nat → Int32) (v : MV) (cz : Option Nat)  (hR : rlOK rl bg) (hto : sg 3 = nI (nx (sg 3))) (hto1 : nx (sg 3) ≤ 500) : CT X ad dv sg rl bg yX3_sync cX3_sync 5 5 1 7 [(va_rf cz)] v (p_Ssync sg rl bg v).1 (p_Ssync sg rl bg v).2 cz := sorry
