/-! serials, the list, the batches in a pool -/
set_option maxRecDepth 100000
abbrev seC (a i : Nat) : Nat × va_E := (a, .inr (12, [.int (nI (i / 40)), .int (nI (i % 40))]))
def liP (P : va_W) (L : List (Nat × Nat)) : Prop := ∀ x ∈ L, x.2 < 240 ∧ seC x.1 x.2 ∈ P
abbrev baC (m : MV) (ba bn : Nat → Nat) (b : Nat) : Nat × va_E := (ba b, .inr (6, [.ref (bn b), .int (m.1 12 b), .int (m.1 13 b), .int (m.1 14 b), .int (m.1 15 b), .int (m.1 16 b), .int (m.1 17 b)]))
def baP (P : va_W) (m : MV) (fa : Nat → Option Nat) (ba bn : Nat → Nat) : Prop := ∀ b, b < nx (m.1 10 0) → fa b = some (ba b) ∧ baC m ba bn b ∈ P
theorem se_code (i : Nat) : 100 * nI (i / 40) + nI (i % 40) = nI (100 * (i / 40) + i % 40) := sorry
theorem code_eq {i z : Nat} (hi : i < 240) (hz : z < 240) : (100 * nI (i / 40) + nI (i % 40) = 100 * nI (z / 40) + nI (z % 40)) ↔ i = z := sorry
theorem fst_none (P : Nat → Bool) : ∀ n k, (∀ j, k ≤ j → j < k + n → P j = false) → fstB P n k = none := sorry
theorem fst_some (P : Nat → Bool) : ∀ n k {j : Nat}, k ≤ j → j < k + n → P j = true → (∀ i, k ≤ i → i < j → P i = false) → fstB P n k = some j := sorry
theorem nI_prd {a n : Nat} (ha : a < 1000000) (hn : n < 1000000) : nI a ≤ nI n - 1 ↔ a < n := sorry
theorem there_iff {m : MV} (hB : batOK m) {i : Nat} (hi : i < 240) : ¬ p_isThere m i = 0 ↔ (i / 40 < nx (m.1 10 0) ∧ i % 40 < nx (m.1 13 (i / 40))) := sorry
theorem nxP_f {m : MV} (hB : batOK m) {b k : Nat} (hb : b < 6) (hk : k < 40) (h : ¬ (b < nx (m.1 10 0) ∧ k < nx (m.1 13 b)) ∨ ¬ m.1 1 (125 + (40 * b + k)) = 0) : nxP m (40 * b + k) = false := sorry
theorem nxP_t {m : MV} (hB : batOK m) {b k : Nat} (hb : b < nx (m.1 10 0)) (hk : k < nx (m.1 13 b)) (h : m.1 1 (125 + (40 * b + k)) = 0) : nxP m (40 * b + k) = true := sorry
theorem nxP_end {m : MV} (hB : batOK m) {b : Nat} (hb : b < nx (m.1 10 0)) (h : ∀ j, j < 40 * b + nx (m.1 13 b) → nxP m j = false) : ∀ j, j < 40 * (b + 1) → nxP m j = false := sorry
theorem nxP_all {m : MV} (hB : batOK m) (h : ∀ j, j < 40 * nx (m.1 10 0) → nxP m j = false) : ∀ j, 0 ≤ j → j < 0 + 240 → nxP m j = false := sorry
/-- a call over cells somewhere in the world, which stay as they are -/
theorem g_Vro {X : xT} {g : gT} {cc : ByteArray} {nL n k : Nat} {own : String} {ret : Option FieldType} {rm : Room} {pc : Nat} {lv : List (Nat × Value)} {st rest : List Value} {ws : va_W} {y : MethodName} {ccy : ByteArray} {nLy : Nat} {rety : Option FieldType} {rmy : Room} {As : List Value} {idx na : Nat} {r : Option Value} {b ci N q0 : Nat} {T : u_T} {fs : List Value} {wc wr : va_W} (C : GC X g cc nL own ret rm) (hM : MetQ X y ccy nLy rety rmy 0 0 (.ref b :: As) wc (eqQ r wc)) {Cn : String} (hw : GoodIn lw_all (wsV own idx Cn y (ws_ y ccy nLy rety)))
    (hd : y.cls = Cn ∧ y.cls ≠ "java/lang/invoke/MethodHandle" ∧ y.cls ≠ "java/lang/invoke/VarHandle" ∧ (parseMethodDescriptor y.desc).map (fun d => d.parameters.length) = some na) (hrc : rmy.cells = 0) (hrs : rmy.slots = 0)
    (hR : rmy.frames + 1 ≤ rm.frames ∧ 8 + (nLy + 11) + rmy.locals ≤ rm.locals) (hcs : n + 0 ≤ rm.cells ∧ k + 0 ≤ rm.slots) (hb : wc[q0]? = some (b, .inr (ci, fs))) (hc : vwCl[ci]? = some (Cn, T, N)) (hn : As.length = na)
    (hst : st = As.reverse ++ .ref b :: rest) (hcat : (rest.map fun v => v.category).sum ≤ 8) (d : decode cc pc = .ok (.invokevirtual idx, 3)) (hperm : ws.Perm (wc ++ wr))
    (kk : G X g nL n k ws (pc + 3) lv (r.toList ++ rest)) : G X g nL n k ws pc lv st := sorry
theorem pm_two {α : Type} {ws : List α} {i j : Nat} {a b : α} (hi : ws[i]? = some a) (hj : ws[j]? = some b) (hne : i ≠ j) : ∃ wr, ws.Perm ([a, b] ++ wr) := sorry
theorem pm_dB {α : Type} (B l P : List α) (ix iy : List Nat) (h : (List.range l.length).isPerm (ix ++ iy) = true) : (B ++ (l ++ P)).Perm ((B ++ (ix.filterMap (fun i => l[i]?) ++ P)) ++ iy.filterMap (fun i => l[i]?)) := sorry
theorem pm_rB {α : Type} (B l P : List α) (ix : List Nat) (h : (List.range l.length).isPerm ix = true) : (B ++ (l ++ P)).Perm (B ++ (ix.filterMap (fun i => l[i]?) ++ P)) := sorry
theorem pm_pl {α : Type} (B l P : List α) {j : Nat} {c : α} (h : P[j]? = some c) : (B ++ (l ++ P)).Perm ((B ++ [c]) ++ (l ++ P.eraseIdx j)) := sorry
theorem pm_pl2 {α : Type} (B l P : List α) {j : Nat} {c : α} (h : P[j]? = some c) : ((B ++ [c]) ++ (l ++ P.eraseIdx j)).Perm (B ++ (l ++ P)) := sorry
/-- the log's next row -/
def recR (a b c d : Int32) : Nat → Int32 := upd (upd (upd (upd (fun _ => 0) 0 a) 1 b) 2 c) 3 d
def recU (v : MV) : MV := if v.1 7 0 = 24 then up (upR v 8 (va_cpy (v.1 8) (v.1 8) 4 0 92)) 7 0 (v.1 7 0 - 1) else v
def recV (v : MV) (z : Nat) (a : Int32) : MV := up (upR (recU v) 8 (va_cpy (recR (100 * nI (z / 40) + nI (z % 40)) (v.1 15 z) a (v.1 16 z)) ((recU v).1 8) 0 (4 * nx ((recU v).1 7 0)) 4)) 7 0 ((recU v).1 7 0 + 1)
def kpL (a b : Int32) (x : Nat × Nat) : Bool := decide (p_inRange (100 * nI (x.2 / 40) + nI (x.2 % 40)) a b = 0)

