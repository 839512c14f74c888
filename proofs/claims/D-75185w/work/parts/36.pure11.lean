/-! the text: bytes, words, numbers, by a function t of bytes (-1 behind the end) -/
set_option maxRecDepth 100000
theorem up_id {v : MV} {f i : Nat} {x : Int32} (h : v.1 f i = x) : up v f i x = v := sorry
theorem up_up {v : MV} {f i : Nat} {x y : Int32} : up (up v f i x) f i y = up v f i y := sorry
def apSel (a1 a2 a3 a4 a5 : Int32) (k : Nat) : Int32 := if 4 ≤ k then (if 8 ≤ k then (if 12 ≤ k then (if 16 ≤ k then a5 else a4) else a3) else a2) else a1
def apB (a1 a2 a3 a4 a5 : Int32) (k : Nat) : Int32 := vp_nar .byte ((apSel a1 a2 a3 a4 a5 k >>> (nI (24 - 8 * (k % 4)) &&& 31)).toInt8.toInt32)
def apR (b : Nat → Int32) (bf : Nat) (w : Nat → Int32) (k : Nat) : Nat → Int32 := fun j => if bf ≤ j ∧ j < bf + k then w (j - bf) else b j
theorem apR_0 (b : Nat → Int32) (bf : Nat) (w : Nat → Int32) : apR b bf w 0 = b := sorry
theorem apR_s (b : Nat → Int32) (bf : Nat) (w : Nat → Int32) (k : Nat) : apR b bf w (k + 1) = upd (apR b bf w k) (bf + k) (w k) := sorry
theorem ap_step {u : MV} {r : Nat → Int32} {x y z : Int32} {j : Nat} : up (up (up (upR u 19 r) 20 0 x) 19 j y) 20 0 z = up (upR u 19 (upd r j y)) 20 0 z := sorry
/-- a white byte -/
def wsB (x : Int32) : Bool := decide (x = 9) || (decide (x = 10) || decide (x = 32))
def skN (t : Nat → Int32) : Nat → Nat → Nat
  | 0, a => a
  | n + 1, a => if wsB (t a) = true then skN t n (a + 1) else a
def sk (t : Nat → Int32) (a : Nat) : Nat := skN t (601 - a) a
/-- a letter -/
def ltB (x : Int32) : Bool := decide (¬ p_inRange x 97 122 = 0)
def weN (t : Nat → Int32) : Nat → Nat → Nat
  | 0, a => a
  | n + 1, a => if ltB (t a) = true then weN t n (a + 1) else a
def we (t : Nat → Int32) (a : Nat) : Nat := weN t (601 - a) a
theorem sk_y {t : Nat → Int32} {a : Nat} (h : a ≤ 600) (hw : wsB (t a) = true) : sk t a = sk t (a + 1) := sorry
theorem sk_n {t : Nat → Int32} {a : Nat} (hw : ¬ wsB (t a) = true) : sk t a = a := sorry
theorem we_y {t : Nat → Int32} {a : Nat} (h : a ≤ 600) (hw : ltB (t a) = true) : we t a = we t (a + 1) := sorry
theorem we_n {t : Nat → Int32} {a : Nat} (hw : ¬ ltB (t a) = true) : we t a = a := sorry
theorem skN_in (t : Nat → Int32) : ∀ n a, a ≤ skN t n a ∧ skN t n a ≤ a + n := sorry
theorem weN_in (t : Nat → Int32) : ∀ n a, a ≤ weN t n a ∧ weN t n a ≤ a + n := sorry
theorem sk_in (t : Nat → Int32) (a : Nat) : a ≤ sk t a ∧ (sk t a ≤ a ∨ sk t a ≤ 601) := sorry
theorem we_in (t : Nat → Int32) (a : Nat) : a ≤ we t a ∧ (we t a ≤ a ∨ we t a ≤ 601) := sorry
theorem and255 (x : Int32) : 0 ≤ x &&& 255 ∧ x &&& 255 ≤ 255 := sorry
