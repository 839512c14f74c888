set_option maxRecDepth 100000
def sumF (f : Nat → Int32) : Nat → Int32
  | 0 => 0
  | n + 1 => sumF f n + f n
theorem ix_eq {x : Int32} {j N : Nat} (e : x = nI j) (h : j < N) (hN : N < 2 ^ 31) : ix x j N := sorry
theorem lg_ix {a b c : Int32} {l : Nat} (hl : a = nI l) (hb : b = nI (nx b)) (hc : c = nI (nx c)) (h1 : nx b < l) (h2 : l ≤ 24) (h3 : nx c < 4) : 4 * (a - 1 - b) + c = nI (4 * (l - 1 - nx b) + nx c) := sorry
theorem in_lt {a b : Int32} {l : Nat} (hl : b = nI l) (h2 : l ≤ 1000) (h : ¬ p_inRange a 0 (b - 1) = 0) : a = nI (nx a) ∧ nx a < l := sorry
theorem lf_eq {m v : MV} {a1 a2 : Int32} (hRS : RS (m.1 1) v) (hb : bnd (m.1 1)) (hE : ¬ p_inRange a2 0 3 = 0) : (if p_inRange a1 0 (m.1 1 19 - 1) = 0 then (-1 : Int32) else m.1 1 ((845 + (4 * nx a1)) + nx a2)) = (if p_inRange a1 0 (m.1 1 19 - 1) = 0 then (-1 : Int32) else v.1 8 (4 * (nx (m.1 1 19) - 1 - nx a1) + nx a2)) := sorry
theorem ls_eq2 (a b : Int32) : p_lesser a b = if a < b then a else b := sorry
theorem sum2 (a b : Int32) : sumF (upd (upd (fun _ => 0) 0 a) 1 b) 2 = a + b := sorry
theorem wl_eq {m v : MV} {E : Int32} (h : E = p_end m) (h14 : v.1 14 0 = m.1 1 14) (h12 : v.1 12 0 = m.1 1 11) (h13 : v.1 13 0 = m.1 1 12) : ((if 0 < p_end (up m 0 0 0) - m.1 1 14 then p_end (up m 0 0 0) - m.1 1 14 else 0) / p_pitch (up m 0 0 0), up m 0 0 0) = ((if 0 < E - v.1 14 0 then E - v.1 14 0 else 0) / sumF (upd (upd (fun _ => 0) 0 (v.1 12 0)) 1 (v.1 13 0)) 2, up m 0 0 0) := sorry
def paP (m : MV) (a1 : Int32) : Nat → Bool := fun k => decide (m.1 1 (845 + 4 * k + 2) = a1)
theorem prg_y {m : MV} {a1 : Int32} {j : Nat} (h : fstB (paP m a1) (nx (m.1 1 19)) 0 = some j) : p_printingAt m a1 = (m.1 1 (845 + 4 * j), up m 0 0 0) := sorry
theorem prg_n {m : MV} {a1 : Int32} (h : fstB (paP m a1) (nx (m.1 1 19)) 0 = none) : p_printingAt m a1 = (-1, up m 0 0 0) := sorry
theorem pr_pos {x : Int32} {k : Nat} (hx : x = nI k - 1) (c : ¬ x < 0) : ∃ k0, k = k0 + 1 ∧ x = nI k0 := sorry
theorem pr_neg {x : Int32} {k : Nat} (hx : x = nI k - 1) (hk : k ≤ 1000) (c : x < 0) : k = 0 := sorry
theorem fst_s {P : Nat → Bool} {k j : Nat} (h : ¬ P j = true) : fstB P (k + 1) j = fstB P k (j + 1) := sorry
theorem m4_2 {x : Int32} {k : Nat} (h : x = nI k) : 4 * x + 2 = nI (4 * k + 2) := sorry
theorem m4_1 {x : Int32} {k : Nat} (h : x = nI k) : 4 * x + 1 = nI (4 * k + 1) := sorry
theorem m4_0 {x : Int32} {k : Nat} (h : x = nI k) : 4 * x = nI (4 * k) := sorry
set_option maxHeartbeats 4000000 in
theorem w_Dsum (X : xT) (q_ n : Nat) (f : Nat → Int32) (hn : n < 1000) : MetQ X yX1_sum cX1_sum 6 (some .int) (rmC 0 0 0) 0 0 [.ref q_] [(q_, .inl (xY X 0, n, .inl f))] (eqQ (some (.int (sumF f n))) [(q_, .inl (xY X 0, n, .inl f))]) := sorry
set_option maxHeartbeats 4000000 in
theorem w_Dtotal (X : xT) (ad : Nat → Nat) (dv sg : Nat → Int32) (ro : Option Nat) (v m : MV) (a1 : Int32) (h113 : ad 113 = ad 102) (hRS : RS (m.1 1) v) (hb : bnd (m.1 1)) : MetX X yX1_total (.code yX1_total cX1_total 2 (some .int)) (rmC 12 2 12) 2 12 [.ref (ad 100), .int a1] (bW X ad dv sg ro v []) (dQ (bW X ad dv sg ro v []) (p_total m a1)) (dT (bW X ad dv sg ro v []) exE (p_total m a1)) := sorry
set_option maxHeartbeats 4000000 in
theorem w_DyieldPercent (X : xT) (ad : Nat → Nat) (dv sg : Nat → Int32) (ro : Option Nat) (v m : MV) (h113 : ad 113 = ad 102) (hRS : RS (m.1 1) v) (hb : bnd (m.1 1)) : MetX X yX1_yieldPercent (.code yX1_yieldPercent cX1_yieldPercent 1 (some .int)) (rmC 12 2 12) 2 12 [.ref (ad 100)] (bW X ad dv sg ro v []) (dQ (bW X ad dv sg ro v []) (p_yieldPercent m)) (dT (bW X ad dv sg ro v []) ex0 (p_yieldPercent m)) := sorry
set_option maxHeartbeats 4000000 in
theorem w_DribbonLasts_n (X : xT) (ad : Nat → Nat) (dv sg : Nat → Int32) (v m : MV) (h113 : ad 113 = ad 102) (hRS : RS (m.1 1) v) (hb : bnd (m.1 1)) (hmo : ¬ m.1 1 0 = 1) (hr0 : m.1 1 9 = 0) : MetX X yX1_ribbonLasts (.code yX1_ribbonLasts cX1_ribbonLasts 2 (some .int)) (rmC 12 2 12) 2 12 [.ref (ad 100)] (bW X ad dv sg none v []) (dQ (bW X ad dv sg none v []) (p_ribbonLasts m)) (dT (bW X ad dv sg none v []) exS (p_ribbonLasts m)) := sorry
set_option maxHeartbeats 4000000 in
theorem w_DribbonLasts_s (X : xT) (ad : Nat → Nat) (dv sg rl bg : Nat → Int32) (v m : MV) (h113 : ad 113 = ad 102) (hRS : RS (m.1 1) v) (hb : bnd (m.1 1)) (hmo : m.1 1 0 = 1) (hC : CX m sg rl bg) : MetX X yX1_ribbonLasts (.code yX1_ribbonLasts cX1_ribbonLasts 2 (some .int)) (rmC 12 2 12) 2 12 [.ref (ad 100)] (bW X ad dv sg (some (ad 120)) v (rW X ad rl bg [])) (dQ (bW X ad dv sg (some (ad 120)) v (rW X ad rl bg [])) (p_ribbonLasts m)) (dT (bW X ad dv sg (some (ad 120)) v (rW X ad rl bg [])) exS (p_ribbonLasts m)) := sorry
set_option maxHeartbeats 4000000 in
theorem w_DwebLasts_n (X : xT) (ad : Nat → Nat) (dv sg : Nat → Int32) (v m : MV) (h113 : ad 113 = ad 102) (hRS : RS (m.1 1) v) (hb : bnd (m.1 1)) (hmo : ¬ m.1 1 0 = 1) (hr0 : m.1 1 9 = 0) (hpi9 : ¬ v.1 9 0 = 0 → ¬ m.1 1 11 + m.1 1 12 = 0) : MetX X yX1_webLasts (.code yX1_webLasts cX1_webLasts 1 (some .int)) (rmC 12 3 15) 3 15 [.ref (ad 100)] (bW X ad dv sg none v []) (dQ (bW X ad dv sg none v []) (p_webLasts m)) (dT (bW X ad dv sg none v []) exS (p_webLasts m)) := sorry
set_option maxHeartbeats 4000000 in
theorem w_DwebLasts_s (X : xT) (ad : Nat → Nat) (dv sg rl bg : Nat → Int32) (v m : MV) (h113 : ad 113 = ad 102) (hRS : RS (m.1 1) v) (hb : bnd (m.1 1)) (hmo : m.1 1 0 = 1) (hC : CX m sg rl bg) (hpi9 : ¬ v.1 9 0 = 0 → ¬ m.1 1 11 + m.1 1 12 = 0) : MetX X yX1_webLasts (.code yX1_webLasts cX1_webLasts 1 (some .int)) (rmC 12 3 15) 3 15 [.ref (ad 100)] (bW X ad dv sg (some (ad 120)) v (rW X ad rl bg [])) (dQ (bW X ad dv sg (some (ad 120)) v (rW X ad rl bg [])) (p_webLasts m)) (dT (bW X ad dv sg (some (ad 120)) v (rW X ad rl bg [])) exS (p_webLasts m)) := sorry
set_option maxHeartbeats 4000000 in
theorem w_DlogField (X : xT) (ad : Nat → Nat) (dv sg : Nat → Int32) (ro : Option Nat) (v m : MV) (a1 : Int32) (a2 : Int32) (h113 : ad 113 = ad 102) (hRS : RS (m.1 1) v) (hb : bnd (m.1 1)) : MetX X yX1_logField (.code yX1_logField cX1_logField 3 (some .int)) (rmC 12 2 12) 2 12 [.ref (ad 100), .int a1, .int a2] (bW X ad dv sg ro v []) (dQ (bW X ad dv sg ro v []) (p_logField m a1 a2)) (dT (bW X ad dv sg ro v []) exE (p_logField m a1 a2)) := sorry
set_option maxHeartbeats 4000000 in
theorem w_DprintingAt (X : xT) (ad : Nat → Nat) (dv sg : Nat → Int32) (ro : Option Nat) (v m : MV) (a1 : Int32) (h113 : ad 113 = ad 102) (hRS : RS (m.1 1) v) (hb : bnd (m.1 1)) : MetX X yX1_printingAt (.code yX1_printingAt cX1_printingAt 3 (some .int)) (rmC 12 2 12) 2 12 [.ref (ad 100), .int a1] (bW X ad dv sg ro v []) (dQ (bW X ad dv sg ro v []) (p_printingAt m a1)) (dT (bW X ad dv sg ro v []) ex0 (p_printingAt m a1)) := sorry
