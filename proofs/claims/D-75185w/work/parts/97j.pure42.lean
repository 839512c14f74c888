/-! one learning of the component = the model's -/
set_option maxRecDepth 100000
theorem sk_pl {m : MV} {f : Int32} {N : Nat} {sg rl bg : Nat → Int32} {v : MV} (hB : ∀ p, p_SisBeginning sg rl bg v p = p_beginsGap m p) : ∀ (k i : Nat), k + i = N → ∃ j, bgN sg rl bg v k (plc f i) = plc f j ∧ i ≤ j ∧ j ≤ N ∧ (∀ q, i ≤ q → q < j → ¬ bgp m f q) ∧ (j < N → bgp m f j) := sorry
theorem lf_all0 {m : MV} {f : Int32} : ∀ i, (∀ q, q < i → ¬ bgp m f q) → lfN m f i = (-1, -1, -1, -1, -1) := sorry
theorem pl_0 {f : Int32} : plc f 0 = f := sorry
theorem f699 (f : Int32) : f + 700 - 1 = plc f (700 - 1) := sorry
/-- the whole search -/
theorem fpR_E {m : MV} {f : Int32} (hf : fOK f) (hne : ∀ b e, bgp m f b → b ≤ e → e ≤ 700 → ¬ plc f e = -1) {sg rl bg : Nat → Int32} {v : MV}
    (hG : ∀ p, p_SisGap sg rl bg v p = p_isLikeGaps m p) (hB : ∀ p, p_SisBeginning sg rl bg v p = p_beginsGap m p) : fpE m f 700 (fpR sg rl bg v f (f + 700 - 1)) (lfN m f n700) := sorry
theorem pl_ne {m : MV} {f : Int32} (hf : fOK f) (h : rollOK (m.1 1)) (hb : bgOK m) : ∀ b e, bgp m f b → b ≤ e → e ≤ 700 → ¬ plc f e = -1 := sorry
/-- a State out of a row -/
def rowV (r : Nat → Int32) : MV := (fun f i => if f = 8 then r (845 + 4 * (nx (r 19) - 1 - i / 4) + i % 4) else r (cf f i), fun _ _ => 0)
theorem rowV_RS (r : Nat → Int32) : RS r (rowV r) := sorry
theorem light_c {a b : MV} {p : Int32} (e1 : ∀ j, (3 ≤ j ∧ j ≤ 7) ∨ 26 ≤ j → a.1 1 j = b.1 1 j) (e2 : a.1 18 = b.1 18) : p_light a p = p_light b p := sorry
theorem like_13 {z : MV} (h : ¬ z.1 1 13 = 1) (p : Int32) : p_isLikeGaps (up z 1 13 0) p = p_isLikeGaps z p := sorry
theorem lfN_c {a b : MV} (h : ∀ p, p_isLikeGaps a p = p_isLikeGaps b p) (f : Int32) : ∀ n, lfN a f n = lfN b f n := sorry
/-- what learning finds lies in the small -/
theorem lf_ok {z : MV} (h : rollOK (z.1 1)) (hb : bgOK z) {f : Int32} (hf : fOK f) : lfOK z f := sorry
theorem lrn_ok {m : MV} {sg rl bg : Nat → Int32} (hC : CX m sg rl bg) (hb : bnd (m.1 1)) (hS : 0 ≤ m.1 5 0 ∧ m.1 5 0 ≤ 1000) : lrnOK m := sorry
