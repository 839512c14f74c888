/-! the component beside the model: relations of a State's numbers to a row of the model -/
set_option maxRecDepth 100000
def cfB : List Nat := [0, 8, 1, 2, 15, 16, 17, 19, 0, 9, 13, 10, 11, 12, 14, 125, 365, 20]
def cfS : List Nat := [0, 1, 1, 1, 1, 1, 1, 1, 0, 1, 1, 1, 1, 1, 1, 240, 240, 6]
/-- where a State's number of field f at i stands in the model's row -/
def cf (f i : Nat) : Nat := cfB.getD f 0 + i
abbrev okc (f i : Nat) : Prop := i < cfS.getD f 0
def cfI (j : Nat) : Nat × Nat := if j < 20 then (([0, 2, 3, 0, 0, 0, 0, 0, 1, 9, 11, 12, 13, 10, 14, 4, 5, 6, 0, 7] : List Nat).getD j 0, 0) else if j < 26 then (17, j - 20) else if j < 365 then (15, j - 125) else (16, j - 365)
theorem okc_lt {f i : Nat} (h : okc f i) : f < 18 := sorry
theorem cfI_cf {f i : Nat} (h : okc f i) : cfI (cf f i) = (f, i) := sorry
theorem cf_inj {f i f' i' : Nat} (h : okc f i) (h' : okc f' i') (e : cf f i = cf f' i') : f = f' ∧ i = i' := sorry
/-- what a State does not hold in its numbers: the roll, the list -/
def nrm (j : Nat) : Prop := j = 0 ∨ (3 ≤ j ∧ j ≤ 7) ∨ j = 18 ∨ (26 ≤ j ∧ j < 125) ∨ (605 ≤ j ∧ j < 845)
theorem cf_rng {f i : Nat} (h : okc f i) : cf f i < 605 ∧ ¬ nrm (cf f i) := sorry
/-- the log: the component's oldest first, the model's latest first -/
def lgI (r : Nat → Int32) (v : MV) : Prop := ∀ k w, k < nx (r 19) → w < 4 → v.1 8 (4 * (nx (r 19) - 1 - k) + w) = r (845 + 4 * k + w)
def RS (r : Nat → Int32) (v : MV) : Prop := (∀ f i, okc f i → v.1 f i = r (cf f i)) ∧ lgI r v
theorem RS.g {r : Nat → Int32} {v : MV} (h : RS r v) (f i : Nat) (ho : okc f i) : v.1 f i = r (cf f i) := sorry
theorem RS_up {r : Nat → Int32} {v : MV} {f i : Nat} {x : Int32} (h : RS r v) (ho : okc f i) (h7 : f ≠ 7) : RS (upd r (cf f i) x) (up v f i x) := sorry
theorem RS_fr {r r' : Nat → Int32} {v : MV} (h : RS r v) (e : ∀ j, ¬ nrm j → r' j = r j) : RS r' v := sorry
theorem RS_eq {r r' : Nat → Int32} {v : MV} (h : RS r v) (e : ∀ j, r' j = r j) : RS r' v := sorry
theorem RS_v {r : Nat → Int32} {v u : MV} (h : RS r v) (e : ∀ f i, (okc f i ∨ (f = 8 ∧ i < 96)) → u.1 f i = v.1 f i) (hl : nx (r 19) ≤ 24) : RS r u := sorry
theorem up_r {v : MV} {j : Nat} {x : Int32} : (up v 1 j x).1 1 = upd (v.1 1) j x := sorry
/-- settings -/
def sgR (m : MV) (sg : Nat → Int32) : Prop := sg 1 = m.1 5 0 ∧ sg 2 = m.1 6 0 ∧ sg 3 = m.1 7 0 ∧ sg 4 = m.1 8 0 ∧ sg 5 = m.1 9 0
/-- a roll beside the row -/
def rlR (r rl bg : Nat → Int32) : Prop := rl 0 = r 3 ∧ rl 1 = r 4 ∧ rl 2 = r 5 ∧ rl 3 = r 6 ∧ rl 4 = r 7 ∧ ∀ i, i ≤ nx (r 3) → bg i = bgF r i
/-- the row of a mounted roll -/
def rollOK (r : Nat → Int32) : Prop := inN (r 3) 1 99 ∧ (20 ≤ r 4 ∧ r 4 ≤ 300) ∧ (2 ≤ r 5 ∧ r 5 ≤ 40) ∧ (0 ≤ r 6 ∧ r 6 ≤ 255) ∧ (0 ≤ r 7 ∧ r 7 ≤ 255) ∧ ∀ k, k < 99 → (-20 ≤ r (26 + k) ∧ r (26 + k) ≤ 20) ∧ 1 ≤ r 4 + r (26 + k)
/-- the model has laid its web -/
def bgOK (m : MV) : Prop := ∀ i, i ≤ nx (m.1 1 3) → m.1 18 i = bgF (m.1 1) i
theorem bgF_rng {r : Nat → Int32} (h : rollOK r) : ∀ i, i ≤ 99 → ((3 * i : Nat) : Int) ≤ (bgF r i).toInt ∧ (bgF r i).toInt ≤ ((360 * i : Nat) : Int) := sorry
theorem bgF_step {r : Nat → Int32} (h : rollOK r) {i : Nat} (hi : i < 99) : bgF r i + 3 ≤ bgF r (i + 1) := sorry
theorem bgF_mono {r : Nat → Int32} (h : rollOK r) {i j : Nat} (hij : i ≤ j) (hj : j ≤ 99) : bgF r i ≤ bgF r j := sorry
theorem bgF_b {r : Nat → Int32} (h : rollOK r) {i : Nat} (hi : i ≤ 99) : 0 ≤ bgF r i ∧ bgF r i ≤ 36000 := sorry
theorem rlOK_of {r rl bg : Nat → Int32} (h : rollOK r) (hR : rlR r rl bg) : rlOK rl bg := sorry
theorem webOK_of {m : MV} (h : rollOK (m.1 1)) (hb : bgOK m) : webOK m := sorry
theorem labN_eq {b c : Nat → Int32} {p : Int32} : ∀ {n : Nat}, (∀ i, i < n → b i = c i) → labN b p n = labN c p n := sorry
theorem end_eq {m : MV} {rl bg : Nat → Int32} (hR : rlR (m.1 1) rl bg) (hb : bgOK m) : p_Rend rl bg = p_end m := sorry
theorem light_eq {m : MV} {rl bg : Nat → Int32} (h : rollOK (m.1 1)) (hR : rlR (m.1 1) rl bg) (hb : bgOK m) (p : Int32) : p_RlightAt rl bg p = p_light m p := sorry
