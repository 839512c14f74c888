/-! words and numbers of the text -/
set_option maxRecDepth 100000
/-- the text is at hand: its length, where we are -/
def tOK (v : MV) : Prop := inN (v.1 21 0) 0 600 ∧ inN (v.1 22 0) 0 601
theorem tOK_fr {u v : MV} (h21 : u.1 21 0 = v.1 21 0) (h22 : u.1 22 0 = v.1 22 0) (h : tOK v) : tOK u := sorry
theorem tOK_at {v : MV} {a : Nat} (h : tOK v) (ha : a ≤ 601) : tOK (up v 22 0 (nI a)) := sorry
theorem skA_le {v : MV} (h : tOK v) : nx (v.1 22 0) ≤ skA v ∧ skA v ≤ 601 := sorry
theorem weA_le {v : MV} (h : tOK v) : skA v ≤ weA v ∧ weA v ≤ 601 := sorry
theorem byte_fr {u v : MV} (h19 : u.1 19 = v.1 19) (h21 : u.1 21 0 = v.1 21 0) : p_byteAt u = p_byteAt v := sorry
/-- do the first j letters of word i stand at a -/
def iwN (t : Nat → Int32) (a i : Nat) : Nat → Int32
  | 0 => 1
  | j + 1 => if iwN t a i j = 0 then 0 else if t (a + j) = kch i j then 1 else 0
theorem iwN_0 {t : Nat → Int32} {a i j : Nat} (h : iwN t a i j = 0) : ∀ n, j ≤ n → iwN t a i n = 0 := sorry
theorem iwN_b (t : Nat → Int32) (a i j : Nat) : iwN t a i j = 0 ∨ iwN t a i j = 1 := sorry
def p_isWord (v : MV) (i : Nat) : Int32 := if p_failed v = 0 then (if weA v - skA v = kLen.getD i 0 then iwN (p_byteAt v) (skA v) i (kLen.getD i 0) else 0) else 0
theorem z_isWord (v : MV) (i : Nat) : p_isWord v i = 0 ∨ p_isWord v i = 1 := sorry
/-- digits -/
def dgB (x : Int32) : Bool := decide (¬ p_inRange x 48 57 = 0)
def deN (t : Nat → Int32) : Nat → Nat → Nat
  | 0, a => a
  | n + 1, a => if dgB (t a) = true then deN t n (a + 1) else a
def de (t : Nat → Int32) (a : Nat) : Nat := deN t (601 - a) a
theorem de_y {t : Nat → Int32} {a : Nat} (h : a ≤ 600) (hw : dgB (t a) = true) : de t a = de t (a + 1) := sorry
theorem de_n {t : Nat → Int32} {a : Nat} (hw : ¬ dgB (t a) = true) : de t a = a := sorry
theorem deN_in (t : Nat → Int32) : ∀ n a, a ≤ deN t n a ∧ deN t n a ≤ a + n := sorry
theorem de_in (t : Nat → Int32) (a : Nat) : a ≤ de t a ∧ (de t a ≤ a ∨ de t a ≤ 601) := sorry
/-- the number that the first k digits at f make (six of them at most) -/
def dgF (t : Nat → Int32) (f : Nat) : Nat → Int32
  | 0 => 0
  | k + 1 => if 6 ≤ k then dgF t f k else 10 * dgF t f k + t (f + k) - 48
def deA (v : MV) : Nat := de (p_byteAt v) (skA v)
theorem deA_le {v : MV} (h : tOK v) : skA v ≤ deA v ∧ deA v ≤ 601 := sorry
def pkF (t : Nat → Int32) (a : Nat) : Nat → Int64
  | 0 => 0
  | k + 1 => pkF t a k * 32 + (t (a + k)).toInt64 - 96

