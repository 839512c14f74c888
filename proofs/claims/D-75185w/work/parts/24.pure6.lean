/-! pure functions: learning -/
set_option maxRecDepth 100000
theorem toInt_addN {f : Int32} {i : Nat} (h0 : -1000000 ≤ f) (h1 : f ≤ 1000000) (hi : i ≤ 1000000) : (f + nI i).toInt = f.toInt + i := sorry
theorem fI_le {f : Int32} {i j : Nat} (h0 : -1000000 ≤ f) (h1 : f ≤ 1000000) (hi : i ≤ 1000000) (hj : j ≤ 1000000) : f + nI i ≤ f + nI j ↔ i ≤ j := sorry
theorem fI_1 (f : Int32) (i : Nat) : f + nI i + 1 = f + nI (i + 1) := sorry
theorem fI_0 (f : Int32) : f = f + nI 0 := sorry
/-- 700, kept closed -/
noncomputable def n700 : Nat := Classical.choose (⟨700, rfl⟩ : ∃ n : Nat, n = 700)
theorem n700_eq : n700 = 700 := sorry
def lmin (v : MV) (f : Int32) : Nat → Int32
  | 0 => p_light v f
  | i + 1 => p_lesser (lmin v f i) (p_light v (f + nI i))
def lmax (v : MV) (f : Int32) : Nat → Int32
  | 0 => p_light v f
  | i + 1 => p_greater (lmax v f i) (p_light v (f + nI i))
def lcnt (v : MV) (f : Int32) : Nat → Int32
  | 0 => 0
  | i + 1 => lcnt v f i + (if p_isLight v (f + nI i) = 0 then 0 else 1)
abbrev T5 : Type := Int32 × Int32 × Int32 × Int32 × Int32
/-- first begin, first end, next begin, latest begin, latest end: a place further -/
def lfS (v : MV) (p : Int32) (t : T5) : T5 :=
  if p_beginsGap v p = 0 then
    (if t.2.2.2.1 = -1 then t else if p_isLikeGaps v (p - 1) = 0 then t else if p_isLikeGaps v p = 0 then
      ((if t.2.1 = -1 then t.2.2.2.1 else t.1), (if t.2.1 = -1 then p else t.2.1), t.2.2.1, t.2.2.2.1, p) else t)
  else (t.1, t.2.1, (if t.2.1 = -1 then t.2.2.1 else if t.2.2.1 = -1 then p else t.2.2.1), p, t.2.2.2.2)
def lfN (v : MV) (f : Int32) : Nat → T5
  | 0 => (-1, -1, -1, -1, -1)
  | i + 1 => lfS v (f + nI i) (lfN v f i)
/-- on by the pitch until at least pos -/
def adv (pos pit : Int32) : Nat → Int32 → Int32
  | 0, f => f
  | n + 1, f => if pos ≤ f then f else adv pos pit n (f + pit)
theorem adv_0 {pos pit f : Int32} {n : Nat} (h : pos ≤ f) : adv pos pit n f = f := sorry
def dist (a b : Int32) : Nat := (b.toInt - a.toInt).toNat
def p_adv (pos pit f : Int32) : Int32 := adv pos pit (dist f pos) f
theorem dist_lt {f pos pit : Int32} (h : ¬ pos ≤ f) (hp : 0 < pit) (hp2 : pit ≤ 1000000) (hf : -1000000 ≤ f) (hpos : pos ≤ 1000000) : dist (f + pit) pos < dist f pos ∧ -1000000 ≤ f + pit := sorry
def gsF (v : MV) : Nat → Int32
  | 0 => 0
  | i + 1 => gsF v i + (if p_beginsGap v (nI i) = 0 then 0 else 1)
def bgP (v : MV) (i : Nat) : Bool := decide (¬ p_beginsGap v (nI i) = 0)
theorem gr0 (a : Int32) : 0 ≤ p_greater 0 a := sorry
