/-! the list and the next serial; calls with free monitors -/
set_option maxRecDepth 100000
/-- the list beside the model's row -/
def liR (r : Nat → Int32) (L : List (Nat × Nat)) : Prop := r 18 = nI L.length ∧ L.length ≤ 240 ∧ ∀ k x, L[k]? = some x → r (605 + k) = nI x.2
theorem seC_mk {q b k : Nat} (hk : k < 40) : ((q, .inr (12, [.int (nI b), .int (nI k)])) : Nat × va_E) = seC q (40 * b + k) := sorry
theorem next_c {m : MV} {x xi : Nat} {L : List (Nat × Nat)} (h : liR (m.1 1) ((x, xi) :: L)) : p_next m = nI xi := sorry
theorem next_e {m : MV} (h : liR (m.1 1) []) : p_next m = optI (fstB (nxP m) 240 0) := sorry
theorem drop_c {L : List (Nat × Nat)} {k : Nat} {x : Nat × Nat} (h : L[k]? = some x) : L.drop k = x :: L.drop (k + 1) := sorry
theorem pm_roll {α : Type} (B R l P : List α) : (B ++ (R ++ (l ++ P))).Perm (B ++ (l ++ (R ++ P))) := sorry
theorem pm_plR {α : Type} (B R l P : List α) {j : Nat} {c : α} (h : P[j]? = some c) : (B ++ (R ++ (l ++ P))).Perm ((B ++ [c]) ++ (R ++ (l ++ P.eraseIdx j))) := sorry
section GMV
variable {X : xT} {g : gT} {cc : ByteArray} {nL n k : Nat} {own : String} {ret : Option FieldType} {rm : Room} {pc : Nat} {lv : List (Nat × Value)} {st rest : List Value} {ws : va_W} {y : MethodName} {ccy : ByteArray} {nLy : Nat} {rety : Option FieldType} {rmy : Room} {As : List Value} {idx na : Nat} {r : Option Value} {b ci N q0 : Nat} {T : u_T} {fs : List Value} {wc wr : va_W} {qs : List Nat}
theorem gm_Vro (C : GC X g cc nL own ret rm) (hM : MetQ X y ccy nLy rety rmy 0 0 (.ref b :: As) wc (eqQ r wc)) {Cn : String} (hw : GoodIn lw_all (wsV own idx Cn y (ws_ y ccy nLy rety)))
    (hd : y.cls = Cn ∧ y.cls ≠ "java/lang/invoke/MethodHandle" ∧ y.cls ≠ "java/lang/invoke/VarHandle" ∧ (parseMethodDescriptor y.desc).map (fun d => d.parameters.length) = some na) (hrc : rmy.cells = 0) (hrs : rmy.slots = 0)
    (hR : rmy.frames + 1 ≤ rm.frames ∧ 8 + (nLy + 11) + rmy.locals ≤ rm.locals) (hcs : n + 0 ≤ rm.cells ∧ k + 0 ≤ rm.slots) (hb : wc[q0]? = some (b, .inr (ci, fs))) (hc : vwCl[ci]? = some (Cn, T, N)) (hn : As.length = na)
    (hst : st = As.reverse ++ .ref b :: rest) (hcat : (rest.map fun v => v.category).sum ≤ 8) (d : decode cc pc = .ok (.invokevirtual idx, 3)) (hperm : ws.Perm (wc ++ wr))
    (kk : GM X g qs nL n k ws (pc + 3) lv (r.toList ++ rest)) : GM X g qs nL n k ws pc lv st := sorry
theorem gm_nk {n9 k9 : Nat} (h1 : n ≤ n9) (h2 : k ≤ k9) (kk : GM X g qs nL n9 k9 ws pc lv st) : GM X g qs nL n k ws pc lv st := sorry
end GMV
theorem pd_code (sg rl bg : Nat → Int32) : ∀ (n i : Nat) (u : MV), (pdR sg rl bg n i u).1 = 0 ∨ (pdR sg rl bg n i u).1 = 1 ∨ (pdR sg rl bg n i u).1 = 2 := sorry
theorem th_drop {X : xT} {g : gT} {nL n k : Nat} {pc : Nat} {lv : List (Nat × Value)} {ws ws8 ws9 : va_W} {E : String} {q : Nat} (h : ws.Perm (ws9 ++ ws8)) (kk : TH X g nL n k ws9 pc lv E q) : TH X g nL n k ws pc lv E q := sorry
theorem fr_SfeedTo (sg : Nat → Int32) (v : MV) (a1 : Int32) (a j : Nat) (h : (a ≠ 2 ∨ j ≠ 0) ∧ (a ≠ 3 ∨ j ≠ 0) ∧ (a ≠ 17 ∨ j ≠ 5)) : (p_SfeedTo sg v a1).1 a j = v.1 a j := sorry
