/-! learning: the component's search for the pitch beside the model's -/
set_option maxRecDepth 100000
def plc (f : Int32) (j : Nat) : Int32 := f + nI j
def fOK (f : Int32) : Prop := -1000000 ≤ f ∧ f ≤ 1000000
theorem pl_int {f : Int32} {j : Nat} (hf : fOK f) (hj : j ≤ 100000) : (plc f j).toInt = f.toInt + j := sorry
theorem pl_s {f : Int32} {j : Nat} : plc f j + 1 = plc f (j + 1) := sorry
theorem pl_p {f : Int32} {j : Nat} : plc f (j + 1) - 1 = plc f j := sorry
theorem pl_lt {f : Int32} {i j : Nat} (hf : fOK f) (hi : i ≤ 100000) (hj : j ≤ 100000) : plc f i < plc f j ↔ i < j := sorry
theorem pl_bds {f : Int32} {i N : Nat} (hf : fOK f) (hi : i ≤ 100000) (hN : N ≤ 100000) (h1 : 1 ≤ N) : bds (plc f (N - 1)) (plc f i) = N - i := sorry
/-- like gaps, one place ahead of the j-th -/
def lkp (m : MV) (f : Int32) (j : Nat) : Prop := ¬ p_isLikeGaps m (plc f j - 1) = 0
def bgp (m : MV) (f : Int32) (j : Nat) : Prop := lkp m f (j + 1) ∧ ¬ lkp m f j
theorem lkp_s {m : MV} {f : Int32} {j : Nat} : lkp m f (j + 1) ↔ ¬ p_isLikeGaps m (plc f j) = 0 := sorry
theorem bgp_iff {m : MV} {f : Int32} {j : Nat} : bgp m f j ↔ ¬ p_beginsGap m (plc f j) = 0 := sorry
theorem lf_b {m : MV} {f : Int32} {j : Nat} {a b c d e : Int32} (h : bgp m f j) : lfS m (plc f j) (a, b, c, d, e) = (a, b, (if b = -1 then c else if c = -1 then plc f j else c), plc f j, e) := sorry
theorem lf_n {m : MV} {f : Int32} {j : Nat} {t : T5} (h : ¬ bgp m f j) (h2 : t.2.2.2.1 = -1 ∨ ¬ lkp m f j ∨ lkp m f (j + 1)) : lfS m (plc f j) t = t := sorry
theorem lf_e {m : MV} {f : Int32} {j : Nat} {a b c d e : Int32} (h1 : lkp m f j) (h2 : ¬ lkp m f (j + 1)) (hd : ¬ d = -1) : lfS m (plc f j) (a, b, c, d, e) = ((if b = -1 then d else a), (if b = -1 then plc f j else b), c, d, plc f j) := sorry
/-- places at which nothing happens -/
theorem lf_quiet {m : MV} {f : Int32} {i j : Nat} (hij : i ≤ j) (h : ∀ q, i ≤ q → q < j → ¬ bgp m f q ∧ ((lfN m f i).2.2.2.1 = -1 ∨ ¬ lkp m f q ∨ lkp m f (q + 1))) : lfN m f j = lfN m f i := sorry
/-- a gap that begins at b and ends at e -/
def gpE (m : MV) (f : Int32) (N b e : Nat) : Prop := b < e ∧ e < N ∧ ¬ lkp m f b ∧ (∀ j, b ≤ j → j < e → lkp m f (j + 1)) ∧ ¬ lkp m f (e + 1)
/-- both sides at the next beginning i -/
def fpJ (m : MV) (f : Int32) (N i : Nat) (fo la x : Int32) (t : T5) : Prop := (fo = -1 ∧ la = -1 ∧ x = -1 ∧ t = (-1, -1, -1, -1, -1)) ∨
  ∃ b0 e0 bl el : Nat, gpE m f N b0 e0 ∧ gpE m f N bl el ∧ e0 ≤ el ∧ el ≤ i ∧ fo = plc f b0 ∧ la = plc f bl ∧ t = (plc f b0, plc f e0, x, plc f bl, plc f el) ∧ (x = -1 ∨ ∃ b1, e0 ≤ b1 ∧ b1 < i ∧ b1 < N ∧ x = plc f b1)
/-- both sides at the end -/
def fpE (m : MV) (f : Int32) (N : Nat) (r : Int32 × Int32 × Int32) (t : T5) : Prop := r.2.2 = t.2.2.1 ∧ (¬ r.2.2 = -1 → ∃ b0 e0 b1 bl el : Nat, gpE m f N b0 e0 ∧ gpE m f N bl el ∧ e0 ≤ b1 ∧ b1 < N ∧ r.1 = plc f b0 ∧ r.2.1 = plc f bl ∧ r.2.2 = plc f b1 ∧ t.1 = plc f b0 ∧ t.2.1 = plc f e0 ∧ t.2.2.2.2 = plc f el)
theorem fpJ_E {m : MV} {f : Int32} {N i : Nat} {fo la x : Int32} {t : T5} (h : fpJ m f N i fo la x t) : fpE m f N (fo, la, x) t := sorry
theorem fp_lf {m : MV} {f : Int32} {N : Nat} (hf : fOK f) (hN : N ≤ 1000) (hN1 : 1 ≤ N) (hne : ∀ b e, bgp m f b → b ≤ e → e ≤ N → ¬ plc f e = -1) {sg rl bg : Nat → Int32} {v : MV}
    (hG : ∀ p, p_SisGap sg rl bg v p = p_isLikeGaps m p) (hB : ∀ p, p_SisBeginning sg rl bg v p = p_beginsGap m p) :
    ∀ (n i : Nat) (fo la x : Int32), N - i ≤ n → i ≤ N → (i < N → bgp m f i) → fpJ m f N i fo la x (lfN m f i) → fpE m f N (fpL sg rl bg v (plc f (N - 1)) n (plc f i) fo la x) (lfN m f N) := sorry
/-- behind a gap, as the component finds it -/
theorem bh_gp {m : MV} {f : Int32} {N b e : Nat} (hf : fOK f) (hN : N ≤ 1000) (hN1 : 1 ≤ N) {sg rl bg : Nat → Int32} {v : MV} (hG : ∀ p, p_SisGap sg rl bg v p = p_isLikeGaps m p) (h : gpE m f N b e) : p_Sbehind sg rl bg v (plc f b) (plc f (N - 1)) = plc f e := sorry
