set_option maxRecDepth 100000
theorem a11 (x : Int32) : x + 1 - 1 = x := sorry
theorem lb_in {m : MV} {rl : Nat → Int32} {a : Int32} (e : rl 0 = m.1 1 3) : p_inRange a 0 (rl 0 + 1 - 1) = p_inRange a 0 (m.1 1 3) := sorry
def lrN (p : Int32 × Int32) (s : Int32) : Int32 × Int32 := if s = 1 then ((if p.1 < p.2 + 1 then p.2 + 1 else p.1), p.2 + 1) else ((if p.1 < 0 then 0 else p.1), 0)
def lrC (v : MV) : Nat → Int32 × Int32
  | 0 => (0, 0)
  | k + 1 => lrN (lrC v k) (v.1 8 (4 * k + 1))
theorem lrN_e (x y s : Int32) : lrN (x, y) s = ((if x < (if s = 1 then y + 1 else 0) then (if s = 1 then y + 1 else 0) else x), (if s = 1 then y + 1 else 0)) := sorry
/-- a row of trues -/
def sgm (B : Nat → Bool) (n i l : Nat) : Prop := i + l ≤ n ∧ ∀ j, i ≤ j → j < i + l → B j = true
def sgX (B : Nat → Bool) (n x : Nat) : Prop := (∃ i, sgm B n i x) ∧ ∀ i l, sgm B n i l → l ≤ x
theorem sgX_u {B : Nat → Bool} {n x y : Nat} (h : sgX B n x) (h' : sgX B n y) : x = y := sorry
theorem sgX_rev {B C : Nat → Bool} {n x : Nat} (hC : ∀ j, j < n → C j = B (n - 1 - j)) (h : sgX B n x) : sgX C n x := sorry
/-- what the loop keeps: the longest row so far, the row that stands at the end -/
def sgI (B : Nat → Bool) (n x y : Nat) : Prop := sgX B n x ∧ sgm B n (n - y) y ∧ y ≤ n ∧ (y = n ∨ B (n - y - 1) = false)
theorem sgI_0 (B : Nat → Bool) : sgI B 0 0 0 := sorry
theorem sgI_t {B : Nat → Bool} {n x y : Nat} (h : sgI B n x y) (hb : B n = true) : sgI B (n + 1) (if x < y + 1 then y + 1 else x) (y + 1) := sorry
theorem sgI_f {B : Nat → Bool} {n x y : Nat} (h : sgI B n x y) (hb : B n = false) : sgI B (n + 1) x 0 := sorry
theorem sgI_le {B : Nat → Bool} {n x y : Nat} (h : sgI B n x y) : x ≤ n ∧ y ≤ n := sorry
theorem lrN_t {x y : Nat} (hx : x < 1000) (hy : y < 1000) : lrN (nI x, nI y) 1 = (nI (if x < y + 1 then y + 1 else x), nI (y + 1)) := sorry
theorem lrN_f {x y : Nat} {s : Int32} (hx : x < 1000) (hs : ¬ s = 1) : lrN (nI x, nI y) s = (nI x, nI 0) := sorry
/-- both sides keep it -/
theorem lr_fold {F : Nat → Int32 × Int32} {s : Nat → Int32} {B : Nat → Bool} (h0 : F 0 = (0, 0)) (hs : ∀ k, F (k + 1) = lrN (F k) (s k)) (hB : ∀ k, B k = decide (s k = 1)) : ∀ n, n ≤ 24 → ∃ x y, F n = (nI x, nI y) ∧ sgI B n x y := sorry
theorem lr_eq {r : Nat → Int32} {v : MV} (h : lgI r v) (hl : nx (r 19) ≤ 24) : (lrF r (nx (r 19))).1 = (lrC v (nx (r 19))).1 := sorry
set_option maxHeartbeats 4000000 in
theorem w_DlabelBegin_n (X : xT) (ad : Nat → Nat) (dv sg : Nat → Int32) (v m : MV) (a1 : Int32) (h113 : ad 113 = ad 102) (hRS : RS (m.1 1) v) (hb : bnd (m.1 1)) (hmo : ¬ m.1 1 0 = 1) (hr0 : m.1 1 9 = 0) : MetX X yX1_labelBegin (.code yX1_labelBegin cX1_labelBegin 2 (some .int)) (rmC 12 2 12) 2 12 [.ref (ad 100), .int a1] (bW X ad dv sg none v []) (dQ (bW X ad dv sg none v []) (p_labelBegin m a1)) (dT (bW X ad dv sg none v []) (ex2 exS exI) (p_labelBegin m a1)) := sorry
set_option maxHeartbeats 4000000 in
theorem w_DlabelBegin_s (X : xT) (ad : Nat → Nat) (dv sg rl bg : Nat → Int32) (v m : MV) (a1 : Int32) (h113 : ad 113 = ad 102) (hRS : RS (m.1 1) v) (hb : bnd (m.1 1)) (hmo : m.1 1 0 = 1) (hC : CX m sg rl bg) : MetX X yX1_labelBegin (.code yX1_labelBegin cX1_labelBegin 2 (some .int)) (rmC 12 2 12) 2 12 [.ref (ad 100), .int a1] (bW X ad dv sg (some (ad 120)) v (rW X ad rl bg [])) (dQ (bW X ad dv sg (some (ad 120)) v (rW X ad rl bg [])) (p_labelBegin m a1)) (dT (bW X ad dv sg (some (ad 120)) v (rW X ad rl bg [])) (ex2 exS exI) (p_labelBegin m a1)) := sorry
set_option maxHeartbeats 4000000 in
theorem w_DlongestRow (X : xT) (ad : Nat → Nat) (dv sg : Nat → Int32) (ro : Option Nat) (v m : MV) (h113 : ad 113 = ad 102) (hRS : RS (m.1 1) v) (hb : bnd (m.1 1)) : MetX X yX1_longestRow (.code yX1_longestRow cX1_longestRow 4 (some .int)) (rmC 12 2 12) 2 12 [.ref (ad 100)] (bW X ad dv sg ro v []) (dQ (bW X ad dv sg ro v []) (p_longestRow m)) (dT (bW X ad dv sg ro v []) ex0 (p_longestRow m)) := sorry
