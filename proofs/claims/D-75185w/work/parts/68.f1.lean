set_option maxRecDepth 100000
theorem pm_newB {α : Type} (B l P : List α) (c : α) : ((B ++ (l ++ P)) ++ [c]).Perm (B ++ ((l ++ [c]) ++ P)) := sorry
theorem pm_cB {α : Type} (B l P : List α) (ix iy : List Nat) (h : (List.range l.length).isPerm (ix ++ iy) = true) : (B ++ (l ++ P)).Perm (ix.filterMap (fun i => l[i]?) ++ (B ++ (iy.filterMap (fun i => l[i]?) ++ P))) := sorry
theorem pm_cT {α : Type} (B l P : List α) (ix iy : List Nat) (h : (List.range l.length).isPerm (ix ++ iy) = true) : (B ++ (l ++ P)).Perm ((ix.filterMap (fun i => l[i]?) ++ P) ++ (B ++ iy.filterMap (fun i => l[i]?))) := sorry
theorem pm_bB {α : Type} (B w o P : List α) : (w ++ (B ++ (o ++ P))).Perm (B ++ ((w ++ o) ++ P)) := sorry
theorem pm_bT {α : Type} (B w o P : List α) : ((w ++ P) ++ (B ++ o)).Perm (B ++ ((w ++ o) ++ P)) := sorry
section QROWS
variable {X : xT} {g : gT} {cc : ByteArray} {nL n k : Nat} {own : String} {ret : Option FieldType} {rm : Room} {pc : Nat} {lv : List (Nat × Value)} {st rest : List Value} {ws : va_W} {y : MethodName} {ccy : ByteArray} {nLy : Nat} {rety : Option FieldType} {rmy : Room} {As : List Value} {idx na : Nat} {r : Option Value}
/-- a call over one object somewhere in the world, which stays as it is -/
theorem g_V1 {b ci N q0 : Nat} {T : u_T} {fs : List Value} (C : GC X g cc nL own ret rm) (hM : MetQ X y ccy nLy rety rmy 0 0 (.ref b :: As) [(b, .inr (ci, fs))] (eqQ r [(b, .inr (ci, fs))])) {Cn : String} (hw : GoodIn lw_all (wsV own idx Cn y (ws_ y ccy nLy rety)))
    (hd : y.cls = Cn ∧ y.cls ≠ "java/lang/invoke/MethodHandle" ∧ y.cls ≠ "java/lang/invoke/VarHandle" ∧ (parseMethodDescriptor y.desc).map (fun d => d.parameters.length) = some na) (hrc : rmy.cells = 0) (hrs : rmy.slots = 0)
    (hR : rmy.frames + 1 ≤ rm.frames ∧ 8 + (nLy + 11) + rmy.locals ≤ rm.locals) (hcs : n + 0 ≤ rm.cells ∧ k + 0 ≤ rm.slots) (hq : ws[q0]? = some (b, .inr (ci, fs))) (hc : vwCl[ci]? = some (Cn, T, N)) (hn : As.length = na)
    (hst : st = As.reverse ++ .ref b :: rest) (hcat : (rest.map fun v => v.category).sum ≤ 8) (d : decode cc pc = .ok (.invokevirtual idx, 3))
    (kk : G X g nL n k ws (pc + 3) lv (r.toList ++ rest)) : G X g nL n k ws pc lv st := sorry
/-- a box of the cache -/
theorem w_intK (X : xT) (j : Nat) (hj : j < 256) : MetQ X yJ18_intValue cJ18_intValue 1 (some .int) (rmC 0 0 0) 0 0 [.ref (xA X (300 + j))] [] (eqQ (some (.int (vb_c j))) []) := sorry
/-- (int) (Integer) of a box, which is let go -/
theorem g_unbox {q : Nat} {z : Int32} {wb : va_W} {i1 i2 : Nat} (C : GC X g cc nL own ret rm) (hb : bxI X q z wb) (hlk : Cond.classLink own i1 "java/lang/Integer" ∈ lw_all) (hw : GoodIn lw_all (wsV own i2 "java/lang/Integer" yJ18_intValue (ws_ yJ18_intValue cJ18_intValue 1 (some .int))))
    (hR : 1 ≤ rm.frames ∧ 20 ≤ rm.locals) (hcs : n ≤ rm.cells ∧ k ≤ rm.slots) (hcat : (st.map fun v => v.category).sum ≤ 8) (d0 : decode cc pc = .ok (.checkcast i1, 3)) (d1 : decode cc (pc + 3) = .ok (.invokevirtual i2, 3))
    (kk : G X g nL n k ws (pc + 6) lv (.int z :: st)) : G X g nL n k (wb ++ ws) pc lv (.ref q :: st) := sorry
/-- a State's methods, called by nest mates -/
theorem cbn_call {j : Nat} {ad : Nat → Nat} {dv sg : Nat → Int32} {ro : Option Nat} {v v1 : MV} {T : va_W} (C : GC X g cc nL own ret rm) (hM : CB X ad dv sg ro y ccy nLy rety j As v r v1) (hw : GoodIn lw_all (ws_ y ccy nLy rety)) (hlk : (own, idx, y, "LabelDriver") ∈ nM) (him : Cond.instanceMethod y ∈ lw_all) (hse : Cond.selects RX3 y y ∈ lw_all) (hini : Cond.initialized y.cls ∈ lw_all)
    (hd : y.cls ≠ "java/lang/invoke/MethodHandle" ∧ y.cls ≠ "java/lang/invoke/VarHandle" ∧ (parseMethodDescriptor y.desc).map (fun d => d.parameters.length) = some na) (hj : j + 1 ≤ rm.frames ∧ 40 * (j + 1) ≤ rm.locals) (hL : nLy ≤ 21) (hnk : n ≤ rm.cells ∧ k ≤ rm.slots) (hn : As.length = na)
    (hst : st = As.reverse ++ .ref (ad 102) :: rest) (hcat : (rest.map fun v => v.category).sum ≤ 8) (d : decode cc pc = .ok (.invokevirtual idx, 3))
    (kk : G X g nL n k (bW X ad dv sg ro v1 T) (pc + 3) lv (r.toList ++ rest)) : G X g nL n k (bW X ad dv sg ro v T) pc lv st := sorry
theorem crn_call {j : Nat} {ad : Nat → Nat} {dv sg rl bg : Nat → Int32} {v v1 : MV} {T : va_W} (C : GC X g cc nL own ret rm) (hM : CR X ad dv sg rl bg y ccy nLy rety j As v r v1) (hw : GoodIn lw_all (ws_ y ccy nLy rety)) (hlk : (own, idx, y, "LabelDriver") ∈ nM) (him : Cond.instanceMethod y ∈ lw_all) (hse : Cond.selects RX3 y y ∈ lw_all) (hini : Cond.initialized y.cls ∈ lw_all)
    (hd : y.cls ≠ "java/lang/invoke/MethodHandle" ∧ y.cls ≠ "java/lang/invoke/VarHandle" ∧ (parseMethodDescriptor y.desc).map (fun d => d.parameters.length) = some na) (hj : j + 1 ≤ rm.frames ∧ 40 * (j + 1) ≤ rm.locals) (hL : nLy ≤ 21) (hnk : n ≤ rm.cells ∧ k ≤ rm.slots) (hn : As.length = na)
    (hst : st = As.reverse ++ .ref (ad 102) :: rest) (hcat : (rest.map fun v => v.category).sum ≤ 8) (d : decode cc pc = .ok (.invokevirtual idx, 3))
    (kk : G X g nL n k (bW X ad dv sg (some (ad 120)) v1 (rW X ad rl bg T)) (pc + 3) lv (r.toList ++ rest)) : G X g nL n k (bW X ad dv sg (some (ad 120)) v (rW X ad rl bg T)) pc lv st := sorry
end QROWS
/-- the first beginning of a gap from p on, n places at most -/
def bgN (sg rl bg : Nat → Int32) (v : MV) : Nat → Int32 → Int32
  | 0, p => p
  | n + 1, p => if p_SisBeginning sg rl bg v p = 0 then bgN sg rl bg v n (p + 1) else p
def p_seek (sg rl bg : Nat → Int32) (v : MV) (t p : Int32) : Int32 := bgN sg rl bg v (bds t p) p
set_option maxHeartbeats 4000000 in
theorem w_bgSeek (X : xT) (ad : Nat → Nat) (dv sg rl bg : Nat → Int32) (v : MV) (it_ : Nat) (nx_ fr_ t_ : Int32) (hR : rlOK rl bg) (ht : t_ ≤ 1000000) : MetQ X yX12_seek cX12_seek 1 none (rmC 5 0 0) 0 0 [.ref it_] (bW X ad dv sg (some (ad 120)) v (rW X ad rl bg [(it_, .inr (10, [.int nx_, .int fr_, .int t_, .ref (ad 102)]))])) (eqQ none (bW X ad dv sg (some (ad 120)) v (rW X ad rl bg [(it_, .inr (10, [.int (p_seek sg rl bg v t_ (nx_ + 1)), .int fr_, .int t_, .ref (ad 102)]))]))) := sorry
set_option maxHeartbeats 4000000 in
theorem w_bgInit (X : xT) (ad : Nat → Nat) (dv sg rl bg : Nat → Int32) (v : MV) (it_ : Nat) (fr_ t_ : Int32) (hR : rlOK rl bg) (ht : t_ ≤ 1000000) : MetQ X yX12_init cX12_init 4 none (rmC 6 0 0) 0 0 [.ref it_, .ref (ad 102), .int fr_, .int t_] (bW X ad dv sg (some (ad 120)) v (rW X ad rl bg [(it_, .inr (10, [.int (0 : Int32), .int (0 : Int32), .int (0 : Int32), .null]))])) (eqQ none (bW X ad dv sg (some (ad 120)) v (rW X ad rl bg [(it_, .inr (10, [.int (p_seek sg rl bg v t_ (fr_ - 1 + 1)), .int fr_, .int t_, .ref (ad 102)]))]))) := sorry
set_option maxHeartbeats 4000000 in
theorem w_bgHas (X : xT) (ad : Nat → Nat) (it_ : Nat) (nx_ fr_ t_ : Int32) : MetQ X yX12_hasNext cX12_hasNext 1 (some .boolean) (rmC 0 0 0) 0 0 [.ref it_] [(it_, .inr (10, [.int nx_, .int fr_, .int t_, .ref (ad 102)]))] (eqQ (some (.int (if t_ < nx_ then (0 : Int32) else 1))) [(it_, .inr (10, [.int nx_, .int fr_, .int t_, .ref (ad 102)]))]) := sorry
set_option maxHeartbeats 4000000 in
theorem w_bgNext2 (X : xT) (ad : Nat → Nat) (dv sg rl bg : Nat → Int32) (v : MV) (it_ : Nat) (nx_ fr_ t_ : Int32) (hR : rlOK rl bg) (ht : t_ ≤ 1000000) (hlt : ¬ t_ < nx_) : MetQ X yX12_next_2 cX12_next_2 2 (some (.object "java/lang/Integer")) (rmC 6 1 1) 1 1 [.ref it_] (bW X ad dv sg (some (ad 120)) v (rW X ad rl bg [(it_, .inr (10, [.int nx_, .int fr_, .int t_, .ref (ad 102)]))])) (fun r w => ∃ (q : Nat) (wb : va_W), r = some (.ref q) ∧ w = wb ++ (bW X ad dv sg (some (ad 120)) v (rW X ad rl bg [(it_, .inr (10, [.int (p_seek sg rl bg v t_ (nx_ + 1)), .int fr_, .int t_, .ref (ad 102)]))])) ∧ bxI X q nx_ wb) := sorry
set_option maxHeartbeats 4000000 in
theorem w_bgNext (X : xT) (ad : Nat → Nat) (dv sg rl bg : Nat → Int32) (v : MV) (it_ : Nat) (nx_ fr_ t_ : Int32) (hR : rlOK rl bg) (ht : t_ ≤ 1000000) (hlt : ¬ t_ < nx_) : MetQ X yX12_next cX12_next 1 (some (.object "java/lang/Object")) (rmC 7 1 1) 1 1 [.ref it_] (bW X ad dv sg (some (ad 120)) v (rW X ad rl bg [(it_, .inr (10, [.int nx_, .int fr_, .int t_, .ref (ad 102)]))])) (fun r w => ∃ (q : Nat) (wb : va_W), r = some (.ref q) ∧ w = wb ++ (bW X ad dv sg (some (ad 120)) v (rW X ad rl bg [(it_, .inr (10, [.int (p_seek sg rl bg v t_ (nx_ + 1)), .int fr_, .int t_, .ref (ad 102)]))])) ∧ bxI X q nx_ wb) := sorry
set_option maxHeartbeats 4000000 in
theorem w_Sbegins (X : xT) (ad : Nat → Nat) (dv sg rl bg : Nat → Int32) (v : MV) (fr_ t_ : Int32) (hR : rlOK rl bg) (ht : t_ ≤ 1000000) : MetQ X yX3_beginnings cX3_beginnings 3 (some (.object "java/util/Iterator")) (rmC 7 1 4) 1 4 [.ref (ad 102), .int fr_, .int t_] (bW X ad dv sg (some (ad 120)) v (rW X ad rl bg [])) (fun r w => ∃ it_ : Nat, r = some (.ref it_) ∧ w = (bW X ad dv sg (some (ad 120)) v (rW X ad rl bg [(it_, .inr (10, [.int (p_seek sg rl bg v t_ (fr_ - 1 + 1)), .int fr_, .int t_, .ref (ad 102)]))]))) := sorry
