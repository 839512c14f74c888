/-! LAYER: G X g nL n k ws pc lv st: from every heap that holds the cells ws (apart, within what may change) the frame at pc with locals lv and stack st comes to the method's end; n cells of k slots are made so far. GC: what holds all through one walk. MetQ: a method's contract. -/
set_option maxRecDepth 100000
abbrev xT := Launch × va_G × (Nat → ClassId) × (Nat → Nat)
abbrev xL (X : xT) : Launch := X.1
abbrev xD (X : xT) : va_G := X.2.1
abbrev xY (X : xT) : Nat → ClassId := X.2.2.1
abbrev xA (X : xT) : Nat → Nat := X.2.2.2
abbrev xTy (X : xT) : List (ClassId × FieldType) := [(xY X 0, .int), (xY X 1, .long), (xY X 2, .boolean), (xY X 3, .byte), (xY X 4, .object "java/lang/Object")]
abbrev gT := Program × Env × Room × State × MethodId × Array Value × List Frame × Method × Code × (State → Prop) × (Nat → Prop)
abbrev gP (g : gT) : Program := g.1
abbrev gE (g : gT) : Env := g.2.1
abbrev gR (g : gT) : Room := g.2.2.1
abbrev gS (g : gT) : State := g.2.2.2.1
abbrev gM (g : gT) : MethodId := g.2.2.2.2.1
abbrev gA (g : gT) : Array Value := g.2.2.2.2.2.1
abbrev gB (g : gT) : List Frame := g.2.2.2.2.2.2.1
abbrev gMt (g : gT) : Method := g.2.2.2.2.2.2.2.1
abbrev gCd (g : gT) : Code := g.2.2.2.2.2.2.2.2.1
abbrev gQ (g : gT) : State → Prop := g.2.2.2.2.2.2.2.2.2.1
abbrev gF (g : gT) : Nat → Prop := g.2.2.2.2.2.2.2.2.2.2
def G (X : xT) (g : gT) (nL n k : Nat) (ws : va_W) (pc : Nat) (lv : List (Nat × Value)) (st : List Value) : Prop :=
  ∀ (H : Heap) (locs : List Loc) (ls : Array Slot), lv_has ls nL lv → va_P (xD X) vwCl ws H → va_D (gF g) ws → va_S (gF g) (gS g).heap H locs → W (gP g) (xL X) (gE g) (gR g) (gS g) (gM g) (gA g) (gB g) (gMt g) (gCd g) H locs n k (gQ g) (F0 (gM g) pc ls st)
def GC (X : xT) (g : gT) (cc : ByteArray) (nL : Nat) (own : String) (ret : Option FieldType) (rm : Room) : Prop :=
  (gP g).tables.exec = Jvm.exec ∧ (gCd g).code = cc ∧ (gCd g).maxLocals = nL ∧ (gS g).vm.findClass own = some (gM g).cls ∧ (∀ w ∈ lw_all, w.before (gA g) (gS g) = true) ∧ (∀ q, (gS g).heap.size ≤ q → gF g q) ∧ va_K (xD X) vwCl (xTy X) (gS g) ∧ (gMt g).sig.returnType = ret ∧ (gMt g).locks = false ∧ gR g = rm ∧ SF X (gF g) (gS g) (gS g).heap
def qQ (X : xT) (Qp : Option Value → va_W → Prop) (A : Nat → Prop) : Array Value → State → Outcome → State → Prop := fun _ st oc t =>
  (∃ (r : Option Value) (w : va_W), oc = .returned r ∧ Qp r w ∧ va_P (xD X) vwCl w t.heap ∧ va_K (xD X) vwCl (xTy X) t ∧ va_D A w) ∧ va_F A st t
def eqQ (r0 : Option Value) (w0 : va_W) : Option Value → va_W → Prop := fun r w => r = r0 ∧ w = w0
def pcQ (X : xT) (av : List Value) (ws : va_W) (sz : Nat) : Array Value → State → Prop := va_Pc av (fun U => U.heap.size = sz ∧ va_P (xD X) vwCl ws U.heap ∧ va_K (xD X) vwCl (xTy X) U ∧ va_D (fun _ => True) ws ∧ SF X (va_A ws sz) U U.heap)
def MetQ (X : xT) (y : MethodName) (cc : ByteArray) (nL : Nat) (ret : Option FieldType) (rm : Room) (mc ms : Nat) (av : List Value) (ws : va_W) (Qp : Option Value → va_W → Prop) : Prop :=
  ∀ sz : Nat, Met (xL X) y (ws_ y cc nL ret) rm (pcQ X av ws sz) (qQ X Qp (va_A ws sz)) mc ms (va_A ws sz)
section LAYER
variable {X : xT} {g : gT} {cc : ByteArray} {nL n k : Nat} {own : String} {ret : Option FieldType} {rm : Room} {ws : va_W} {pc : Nat} {lv : List (Nat × Value)} {st rest : List Value} {mc ms : Nat} {Qp : Option Value → va_W → Prop}
theorem GC.x (C : GC X g cc nL own ret rm) : (gP g).tables.exec = Jvm.exec := sorry
theorem GC.b (C : GC X g cc nL own ret rm) : (gCd g).code = cc := sorry
theorem GC.ml (C : GC X g cc nL own ret rm) : (gCd g).maxLocals = nL := sorry
theorem GC.o (C : GC X g cc nL own ret rm) : (gS g).vm.findClass own = some (gM g).cls := sorry
theorem GC.ts (C : GC X g cc nL own ret rm) : ∀ w ∈ lw_all, w.before (gA g) (gS g) = true := sorry
theorem GC.a (C : GC X g cc nL own ret rm) : ∀ q, (gS g).heap.size ≤ q → gF g q := sorry
theorem GC.kd (C : GC X g cc nL own ret rm) : va_K (xD X) vwCl (xTy X) (gS g) := sorry
theorem GC.r (C : GC X g cc nL own ret rm) : (gMt g).sig.returnType = ret := sorry
theorem GC.lk (C : GC X g cc nL own ret rm) : (gMt g).locks = false := sorry
theorem GC.R (C : GC X g cc nL own ret rm) : gR g = rm := sorry
theorem GC.sf (C : GC X g cc nL own ret rm) : SF X (gF g) (gS g) (gS g).heap := sorry
theorem met_of_G {y : MethodName} {av : List Value} (hy : plainName y.cls = true) (hL : (lg_sl av).length ≤ nL)
    (body : ∀ g : gT, GC X g cc nL y.cls ret rm → gQ g = MQ (gB g) (qQ X Qp (gF g)) (gA g) (gS g) mc ms (gF g) → G X g nL 0 0 ws 0 (lv_args 0 av) []) : MetQ X y cc nL ret rm mc ms av ws Qp := sorry
theorem vaP_iff {D : va_G} {cl : List vw_C} {w : va_W} {H : Heap} : va_P D cl w H ↔ ∀ q ∈ w, va_at D cl q H := sorry
theorem vaA_iff {w : va_W} {sz q : Nat} : va_A w sz q ↔ (∃ e, (q, e) ∈ w) ∨ sz ≤ q := sorry
theorem vaD_iff {A : Nat → Prop} {w : va_W} : va_D A w ↔ w.Pairwise (fun a b => a.1 ≠ b.1) ∧ ∀ q ∈ w, A q.1 := sorry
theorem vaP_perm {D : va_G} {cl : List vw_C} {w w' : va_W} {H : Heap} (hp : w.Perm w') (h : va_P D cl w H) : va_P D cl w' H := sorry
theorem vaD_perm {A : Nat → Prop} {w w' : va_W} (hp : w.Perm w') (h : va_D A w) : va_D A w' := sorry
theorem vaD_app {A : Nat → Prop} {a b : va_W} : va_D A (a ++ b) ↔ va_D A a ∧ va_D A b ∧ ∀ x ∈ a, ∀ y ∈ b, x.1 ≠ y.1 := sorry
/-- the frame rule: the callee's world wc out of ws, the rest wr stays -/
theorem g_run {wc wr : va_W} {a : Array Value} (C : GC X g cc nL own ret rm) (hperm : ws.Perm (wc ++ wr))
    (hrun : ∀ (H : Heap) (locs : List Loc) (ls : Array Slot), ls.size = nL → va_P (xD X) vwCl wc H → va_D (fun _ => True) wc → SF X (va_A wc H.size) (gS g) H → va_S (gF g) (gS g).heap H locs → va_Run (gP g) (xL X) (gE g) (gR g) (gS g) (gM g) (gA g) (gB g) (gMt g) (gCd g) H locs n k mc ms (F0 (gM g) pc ls st) rest (qQ X Qp (va_A wc H.size) a) (va_A wc H.size))
    (kk : ∀ (r : Option Value) (w : va_W), Qp r w → G X g nL (n + mc) (k + ms) (w ++ wr) (pc + 3) lv (r.toList ++ rest)) : G X g nL n k ws pc lv st := sorry
theorem pcQ_blind {av : List Value} {w : va_W} {sz : Nat} : FrameBlind (pcQ X av w sz) := sorry
theorem pcQ_of {av : List Value} {w : va_W} {H : Heap} (C : GC X g cc nL own ret rm) (hP : va_P (xD X) vwCl w H) (hD : va_D (fun _ => True) w) (hSF : SF X (va_A w H.size) (gS g) H) : ∀ U : State, U.heap = H → (gS g).WarmedH U.vm → pcQ X av w H.size av.toArray U := sorry
section CALLS
variable {y : MethodName} {ccy : ByteArray} {nLy : Nat} {rety : Option FieldType} {rmy : Room} {mcy msy : Nat} {As : List Value} {wc wr : va_W} {idx na : Nat} {b : Nat}
theorem g_V (C : GC X g cc nL own ret rm) (hM : MetQ X y ccy nLy rety rmy mcy msy (.ref b :: As) wc Qp) {Cn : String} (hw : GoodIn lw_all (wsV own idx Cn y (ws_ y ccy nLy rety)))
    (hd : y.cls = Cn ∧ y.cls ≠ "java/lang/invoke/MethodHandle" ∧ y.cls ≠ "java/lang/invoke/VarHandle" ∧ (parseMethodDescriptor y.desc).map (fun d => d.parameters.length) = some na) (hrc : rmy.cells = mcy) (hrs : rmy.slots = msy)
    (hR : rmy.frames + 1 ≤ rm.frames ∧ 8 + (nLy + 11) + rmy.locals ≤ rm.locals) (hcs : n + mcy ≤ rm.cells ∧ k + msy ≤ rm.slots) {q0 ci N : Nat} {T : u_T} {fs : List Value} (hb : wc[q0]? = some (b, .inr (ci, fs))) (hc : vwCl[ci]? = some (Cn, T, N)) (hn : As.length = na)
    (hst : st = As.reverse ++ .ref b :: rest) (hcat : (rest.map fun v => v.category).sum ≤ 8) (d : decode cc pc = .ok (.invokevirtual idx, 3)) (hperm : ws.Perm (wc ++ wr))
    (kk : ∀ (r : Option Value) (w : va_W), Qp r w → G X g nL (n + mcy) (k + msy) (w ++ wr) (pc + 3) lv (r.toList ++ rest)) : G X g nL n k ws pc lv st := sorry
theorem g_Vr (C : GC X g cc nL own ret rm) (hM : MetQ X y ccy nLy rety rmy mcy msy (.ref b :: As) wc Qp) {Cn : String} (hw : GoodIn lw_all (wsV own idx Cn y (ws_ y ccy nLy rety)))
    (hd : y.cls = Cn ∧ y.cls ≠ "java/lang/invoke/MethodHandle" ∧ y.cls ≠ "java/lang/invoke/VarHandle" ∧ (parseMethodDescriptor y.desc).map (fun d => d.parameters.length) = some na) (hrc : rmy.cells = mcy) (hrs : rmy.slots = msy)
    (hR : rmy.frames + 1 ≤ rm.frames ∧ 8 + (nLy + 11) + rmy.locals ≤ rm.locals) (hcs : n + mcy ≤ rm.cells ∧ k + msy ≤ rm.slots) (hrv : ∀ (H : Heap) (locs : List Loc), va_S (gF g) (gS g).heap H locs → ∃ cell : Cell, H[b]? = some cell ∧ cell.vm.isStatics = false ∧ (gS g).vm.findClass Cn = some cell.cls) (hn : As.length = na)
    (hst : st = As.reverse ++ .ref b :: rest) (hcat : (rest.map fun v => v.category).sum ≤ 8) (d : decode cc pc = .ok (.invokevirtual idx, 3)) (hperm : ws.Perm (wc ++ wr))
    (kk : ∀ (r : Option Value) (w : va_W), Qp r w → G X g nL (n + mcy) (k + msy) (w ++ wr) (pc + 3) lv (r.toList ++ rest)) : G X g nL n k ws pc lv st := sorry
theorem g_Sx (C : GC X g cc nL own ret rm) (hM : MetQ X y ccy nLy rety rmy mcy msy As wc Qp) (hw : GoodIn lw_all (va_wsS own idx y (ws_ y ccy nLy rety)))
    (hd : y.cls ≠ "java/lang/invoke/MethodHandle" ∧ y.cls ≠ "java/lang/invoke/VarHandle" ∧ (parseMethodDescriptor y.desc).map (fun d => d.parameters.length) = some na) (hrc : rmy.cells = mcy) (hrs : rmy.slots = msy)
    (hR : rmy.frames + 1 ≤ rm.frames ∧ 8 + (nLy + 11) + rmy.locals ≤ rm.locals) (hcs : n + mcy ≤ rm.cells ∧ k + msy ≤ rm.slots) (hn : As.length = na)
    (hst : st = As.reverse ++ rest) (hcat : (rest.map fun v => v.category).sum ≤ 8) (d : decode cc pc = .ok (.invokestatic idx, 3)) (hperm : ws.Perm (wc ++ wr))
    (kk : ∀ (r : Option Value) (w : va_W), Qp r w → G X g nL (n + mcy) (k + msy) (w ++ wr) (pc + 3) lv (r.toList ++ rest)) : G X g nL n k ws pc lv st := sorry
theorem g_Ix (C : GC X g cc nL own ret rm) (hM : MetQ X y ccy nLy none rmy mcy msy (.ref b :: As) wc Qp) (hw : GoodIn lw_all (ws_ y ccy nLy none)) (hini : Cond.initialized y.cls ∈ lw_all) (hlk : Cond.methodLink own idx y ∈ lw_all) (him : Cond.instanceMethod y ∈ lw_all) (hyn : y.name = "<init>")
    (hd : y.cls ≠ "java/lang/invoke/MethodHandle" ∧ y.cls ≠ "java/lang/invoke/VarHandle" ∧ (parseMethodDescriptor y.desc).map (fun d => d.parameters.length) = some na) (hrc : rmy.cells = mcy) (hrs : rmy.slots = msy)
    (hR : rmy.frames + 1 ≤ rm.frames ∧ 8 + (nLy + 11) + rmy.locals ≤ rm.locals) (hcs : n + mcy ≤ rm.cells ∧ k + msy ≤ rm.slots) (hn : As.length = na)
    (hst : st = As.reverse ++ .ref b :: rest) (hcat : (rest.map fun v => v.category).sum ≤ 8) (d : decode cc pc = .ok (.invokespecial idx, 3)) (hperm : ws.Perm (wc ++ wr))
    (kk : ∀ (r : Option Value) (w : va_W), Qp r w → G X g nL (n + mcy) (k + msy) (w ++ wr) (pc + 3) lv (r.toList ++ rest)) : G X g nL n k ws pc lv st := sorry
end CALLS
theorem g_iconst (C : GC X g cc nL own ret rm) {i : Int} {v : Int32} (d : decode cc pc = .ok (.iconst i, 1)) (hv : Int32.ofInt i = v) (kk : G X g nL n k ws (pc + 1) lv (.int v :: st)) : G X g nL n k ws pc lv st := sorry
theorem g_bipush (C : GC X g cc nL own ret rm) {i : Int} {v : Int32} (d : decode cc pc = .ok (.bipush i, 2)) (hv : (Int8.ofInt i).toInt32 = v) (kk : G X g nL n k ws (pc + 2) lv (.int v :: st)) : G X g nL n k ws pc lv st := sorry
theorem g_sipush (C : GC X g cc nL own ret rm) {i : Int} {v : Int32} (d : decode cc pc = .ok (.sipush i, 3)) (hv : (Int16.ofInt i).toInt32 = v) (kk : G X g nL n k ws (pc + 3) lv (.int v :: st)) : G X g nL n k ws pc lv st := sorry
theorem g_lconst (C : GC X g cc nL own ret rm) {i : Fin 2} {v : Int64} (d : decode cc pc = .ok (.lconst i, 1)) (hv : Int64.ofNat (i : Nat) = v) (kk : G X g nL n k ws (pc + 1) lv (.long v :: st)) : G X g nL n k ws pc lv st := sorry
theorem g_null (C : GC X g cc nL own ret rm) (d : decode cc pc = .ok (.aconst_null, 1)) (kk : G X g nL n k ws (pc + 1) lv (.null :: st)) : G X g nL n k ws pc lv st := sorry
theorem g_iload_n (C : GC X g cc nL own ret rm) {f : Fin 4} {i : Nat} {x : Int32} (q : Nat) (d : decode cc pc = .ok (.iload_n f, 1)) (hi : (f : Nat) = i) (hq : lv[q]? = some (i, .int x)) (kk : G X g nL n k ws (pc + 1) lv (.int x :: st)) : G X g nL n k ws pc lv st := sorry
theorem g_iload (C : GC X g cc nL own ret rm) {i : Nat} {x : Int32} (q : Nat) (d : decode cc pc = .ok (.iload i, 2)) (hq : lv[q]? = some (i, .int x)) (kk : G X g nL n k ws (pc + 2) lv (.int x :: st)) : G X g nL n k ws pc lv st := sorry
theorem g_lload_n (C : GC X g cc nL own ret rm) {f : Fin 4} {i : Nat} {x : Int64} (q : Nat) (d : decode cc pc = .ok (.lload_n f, 1)) (hi : (f : Nat) = i) (hq : lv[q]? = some (i, .long x)) (kk : G X g nL n k ws (pc + 1) lv (.long x :: st)) : G X g nL n k ws pc lv st := sorry
theorem g_lload (C : GC X g cc nL own ret rm) {i : Nat} {x : Int64} (q : Nat) (d : decode cc pc = .ok (.lload i, 2)) (hq : lv[q]? = some (i, .long x)) (kk : G X g nL n k ws (pc + 2) lv (.long x :: st)) : G X g nL n k ws pc lv st := sorry
theorem g_aload_n (C : GC X g cc nL own ret rm) {f : Fin 4} {i : Nat} {x : Nat} (q : Nat) (d : decode cc pc = .ok (.aload_n f, 1)) (hi : (f : Nat) = i) (hq : lv[q]? = some (i, .ref x)) (kk : G X g nL n k ws (pc + 1) lv (.ref x :: st)) : G X g nL n k ws pc lv st := sorry
theorem g_aload (C : GC X g cc nL own ret rm) {i : Nat} {x : Nat} (q : Nat) (d : decode cc pc = .ok (.aload i, 2)) (hq : lv[q]? = some (i, .ref x)) (kk : G X g nL n k ws (pc + 2) lv (.ref x :: st)) : G X g nL n k ws pc lv st := sorry
theorem g_aload_nN (C : GC X g cc nL own ret rm) {f : Fin 4} {i : Nat} (q : Nat) (d : decode cc pc = .ok (.aload_n f, 1)) (hi : (f : Nat) = i) (hq : lv[q]? = some (i, .null)) (kk : G X g nL n k ws (pc + 1) lv (.null :: st)) : G X g nL n k ws pc lv st := sorry
theorem g_aloadN (C : GC X g cc nL own ret rm) {i : Nat} (q : Nat) (d : decode cc pc = .ok (.aload i, 2)) (hq : lv[q]? = some (i, .null)) (kk : G X g nL n k ws (pc + 2) lv (.null :: st)) : G X g nL n k ws pc lv st := sorry
theorem g_istore_n (C : GC X g cc nL own ret rm) {f : Fin 4} {i : Nat} {x : Int32} {lv9 : List (Nat × Value)} (d : decode cc pc = .ok (.istore_n f, 1)) (hi : (f : Nat) = i) (hn : i < nL) (hl9 : (i, Value.int x) :: lv.filter (fun q => !(q.1 == i) && !(q.1 + 1 == i && q.2.category == 2)) = lv9) (kk : G X g nL n k ws (pc + 1) lv9 st) : G X g nL n k ws pc lv (.int x :: st) := sorry
theorem g_istore (C : GC X g cc nL own ret rm) {i : Nat} {x : Int32} {lv9 : List (Nat × Value)} (d : decode cc pc = .ok (.istore i, 2)) (hn : i < nL) (hl9 : (i, Value.int x) :: lv.filter (fun q => !(q.1 == i) && !(q.1 + 1 == i && q.2.category == 2)) = lv9) (kk : G X g nL n k ws (pc + 2) lv9 st) : G X g nL n k ws pc lv (.int x :: st) := sorry
theorem g_astore_n (C : GC X g cc nL own ret rm) {f : Fin 4} {i : Nat} {x : Nat} {lv9 : List (Nat × Value)} (d : decode cc pc = .ok (.astore_n f, 1)) (hi : (f : Nat) = i) (hn : i < nL) (hl9 : (i, Value.ref x) :: lv.filter (fun q => !(q.1 == i) && !(q.1 + 1 == i && q.2.category == 2)) = lv9) (kk : G X g nL n k ws (pc + 1) lv9 st) : G X g nL n k ws pc lv (.ref x :: st) := sorry
theorem g_astore (C : GC X g cc nL own ret rm) {i : Nat} {x : Nat} {lv9 : List (Nat × Value)} (d : decode cc pc = .ok (.astore i, 2)) (hn : i < nL) (hl9 : (i, Value.ref x) :: lv.filter (fun q => !(q.1 == i) && !(q.1 + 1 == i && q.2.category == 2)) = lv9) (kk : G X g nL n k ws (pc + 2) lv9 st) : G X g nL n k ws pc lv (.ref x :: st) := sorry
theorem g_lstore_n (C : GC X g cc nL own ret rm) {f : Fin 4} {i : Nat} {x : Int64} {lv9 : List (Nat × Value)} (d : decode cc pc = .ok (.lstore_n f, 1)) (hi : (f : Nat) = i) (hn : i + 1 < nL) (hl9 : (i, Value.long x) :: lv.filter (fun q => !(q.1 == i) && (!(q.1 == i + 1) && !(q.1 + 1 == i && q.2.category == 2))) = lv9) (kk : G X g nL n k ws (pc + 1) lv9 st) : G X g nL n k ws pc lv (.long x :: st) := sorry
theorem g_lstore (C : GC X g cc nL own ret rm) {i : Nat} {x : Int64} {lv9 : List (Nat × Value)} (d : decode cc pc = .ok (.lstore i, 2)) (hn : i + 1 < nL) (hl9 : (i, Value.long x) :: lv.filter (fun q => !(q.1 == i) && (!(q.1 == i + 1) && !(q.1 + 1 == i && q.2.category == 2))) = lv9) (kk : G X g nL n k ws (pc + 2) lv9 st) : G X g nL n k ws pc lv (.long x :: st) := sorry
theorem g_astore_nN (C : GC X g cc nL own ret rm) {f : Fin 4} {i : Nat} {lv9 : List (Nat × Value)} (d : decode cc pc = .ok (.astore_n f, 1)) (hi : (f : Nat) = i) (hn : i < nL) (hl9 : (i, Value.null) :: lv.filter (fun q => !(q.1 == i) && !(q.1 + 1 == i && q.2.category == 2)) = lv9) (kk : G X g nL n k ws (pc + 1) lv9 st) : G X g nL n k ws pc lv (.null :: st) := sorry
theorem g_astoreN (C : GC X g cc nL own ret rm) {i : Nat} {lv9 : List (Nat × Value)} (d : decode cc pc = .ok (.astore i, 2)) (hn : i < nL) (hl9 : (i, Value.null) :: lv.filter (fun q => !(q.1 == i) && !(q.1 + 1 == i && q.2.category == 2)) = lv9) (kk : G X g nL n k ws (pc + 2) lv9 st) : G X g nL n k ws pc lv (.null :: st) := sorry
theorem g_iinc (C : GC X g cc nL own ret rm) {i : Nat} {w : Int} {x v : Int32} {lv9 : List (Nat × Value)} (q : Nat) (d : decode cc pc = .ok (.iinc i w, 3)) (hq : lv[q]? = some (i, .int x)) (hv : x + Int32.ofInt w = v) (hn : i < nL) (hl9 : (i, Value.int v) :: lv.filter (fun q => !(q.1 == i) && !(q.1 + 1 == i && q.2.category == 2)) = lv9) (kk : G X g nL n k ws (pc + 3) lv9 st) : G X g nL n k ws pc lv st := sorry
theorem g_iadd (C : GC X g cc nL own ret rm) {x y : Int32} (d : decode cc pc = .ok (.iadd, 1)) (kk : G X g nL n k ws (pc + 1) lv (.int (x + y) :: st)) : G X g nL n k ws pc lv (.int y :: .int x :: st) := sorry
theorem g_isub (C : GC X g cc nL own ret rm) {x y : Int32} (d : decode cc pc = .ok (.isub, 1)) (kk : G X g nL n k ws (pc + 1) lv (.int (x - y) :: st)) : G X g nL n k ws pc lv (.int y :: .int x :: st) := sorry
theorem g_imul (C : GC X g cc nL own ret rm) {x y : Int32} (d : decode cc pc = .ok (.imul, 1)) (kk : G X g nL n k ws (pc + 1) lv (.int (x * y) :: st)) : G X g nL n k ws pc lv (.int y :: .int x :: st) := sorry
theorem g_iand (C : GC X g cc nL own ret rm) {x y : Int32} (d : decode cc pc = .ok (.iand, 1)) (kk : G X g nL n k ws (pc + 1) lv (.int (x &&& y) :: st)) : G X g nL n k ws pc lv (.int y :: .int x :: st) := sorry
theorem g_ior (C : GC X g cc nL own ret rm) {x y : Int32} (d : decode cc pc = .ok (.ior, 1)) (kk : G X g nL n k ws (pc + 1) lv (.int (x ||| y) :: st)) : G X g nL n k ws pc lv (.int y :: .int x :: st) := sorry
theorem g_ixor (C : GC X g cc nL own ret rm) {x y : Int32} (d : decode cc pc = .ok (.ixor, 1)) (kk : G X g nL n k ws (pc + 1) lv (.int (x ^^^ y) :: st)) : G X g nL n k ws pc lv (.int y :: .int x :: st) := sorry
theorem g_ishl (C : GC X g cc nL own ret rm) {x y : Int32} (d : decode cc pc = .ok (.ishl, 1)) (kk : G X g nL n k ws (pc + 1) lv (.int (x <<< (y &&& 31)) :: st)) : G X g nL n k ws pc lv (.int y :: .int x :: st) := sorry
theorem g_ishr (C : GC X g cc nL own ret rm) {x y : Int32} (d : decode cc pc = .ok (.ishr, 1)) (kk : G X g nL n k ws (pc + 1) lv (.int (x >>> (y &&& 31)) :: st)) : G X g nL n k ws pc lv (.int y :: .int x :: st) := sorry
theorem g_idiv (C : GC X g cc nL own ret rm) {x y : Int32} (d : decode cc pc = .ok (.idiv, 1)) (hne : ¬ y = 0) (kk : G X g nL n k ws (pc + 1) lv (.int (x / y) :: st)) : G X g nL n k ws pc lv (.int y :: .int x :: st) := sorry
theorem g_irem (C : GC X g cc nL own ret rm) {x y : Int32} (d : decode cc pc = .ok (.irem, 1)) (hne : ¬ y = 0) (kk : G X g nL n k ws (pc + 1) lv (.int (x - x / y * y) :: st)) : G X g nL n k ws pc lv (.int y :: .int x :: st) := sorry
theorem g_ineg (C : GC X g cc nL own ret rm) {x : Int32} (d : decode cc pc = .ok (.ineg, 1)) (kk : G X g nL n k ws (pc + 1) lv (.int (-x) :: st)) : G X g nL n k ws pc lv (.int x :: st) := sorry
theorem g_ladd (C : GC X g cc nL own ret rm) {x y : Int64} (d : decode cc pc = .ok (.ladd, 1)) (kk : G X g nL n k ws (pc + 1) lv (.long (x + y) :: st)) : G X g nL n k ws pc lv (.long y :: .long x :: st) := sorry
theorem g_lsub (C : GC X g cc nL own ret rm) {x y : Int64} (d : decode cc pc = .ok (.lsub, 1)) (kk : G X g nL n k ws (pc + 1) lv (.long (x - y) :: st)) : G X g nL n k ws pc lv (.long y :: .long x :: st) := sorry
theorem g_lmul (C : GC X g cc nL own ret rm) {x y : Int64} (d : decode cc pc = .ok (.lmul, 1)) (kk : G X g nL n k ws (pc + 1) lv (.long (x * y) :: st)) : G X g nL n k ws pc lv (.long y :: .long x :: st) := sorry
theorem g_land (C : GC X g cc nL own ret rm) {x y : Int64} (d : decode cc pc = .ok (.land, 1)) (kk : G X g nL n k ws (pc + 1) lv (.long (x &&& y) :: st)) : G X g nL n k ws pc lv (.long y :: .long x :: st) := sorry
theorem g_ldiv (C : GC X g cc nL own ret rm) {x y : Int64} (d : decode cc pc = .ok (.ldiv, 1)) (hne : ¬ y = 0) (kk : G X g nL n k ws (pc + 1) lv (.long (x / y) :: st)) : G X g nL n k ws pc lv (.long y :: .long x :: st) := sorry
theorem g_lrem (C : GC X g cc nL own ret rm) {x y : Int64} (d : decode cc pc = .ok (.lrem, 1)) (hne : ¬ y = 0) (kk : G X g nL n k ws (pc + 1) lv (.long (x - x / y * y) :: st)) : G X g nL n k ws pc lv (.long y :: .long x :: st) := sorry
theorem g_i2l (C : GC X g cc nL own ret rm) {x : Int32} {v : Int64} (d : decode cc pc = .ok (.i2l, 1)) (hv : x.toInt64 = v) (kk : G X g nL n k ws (pc + 1) lv (.long v :: st)) : G X g nL n k ws pc lv (.int x :: st) := sorry
theorem g_l2i (C : GC X g cc nL own ret rm) {x : Int64} {v : Int32} (d : decode cc pc = .ok (.l2i, 1)) (hv : x.toInt32 = v) (kk : G X g nL n k ws (pc + 1) lv (.int v :: st)) : G X g nL n k ws pc lv (.long x :: st) := sorry
theorem g_i2b (C : GC X g cc nL own ret rm) {x v : Int32} (d : decode cc pc = .ok (.i2b, 1)) (hv : x.toInt8.toInt32 = v) (kk : G X g nL n k ws (pc + 1) lv (.int v :: st)) : G X g nL n k ws pc lv (.int x :: st) := sorry
theorem g_i2c (C : GC X g cc nL own ret rm) {x v : Int32} (d : decode cc pc = .ok (.i2c, 1)) (hv : (x.toUInt32 % 65536).toInt32 = v) (kk : G X g nL n k ws (pc + 1) lv (.int v :: st)) : G X g nL n k ws pc lv (.int x :: st) := sorry
theorem g_iushr (C : GC X g cc nL own ret rm) {x y v : Int32} (d : decode cc pc = .ok (.iushr, 1)) (hv : (x.toUInt32 >>> (y.toUInt32 &&& Int32.toUInt32 31)).toInt32 = v) (kk : G X g nL n k ws (pc + 1) lv (.int v :: st)) : G X g nL n k ws pc lv (.int y :: .int x :: st) := sorry
theorem g_lshr (C : GC X g cc nL own ret rm) {x v : Int64} {y : Int32} (d : decode cc pc = .ok (.lshr, 1)) (hv : x >>> (y.toInt64 &&& 63) = v) (kk : G X g nL n k ws (pc + 1) lv (.long v :: st)) : G X g nL n k ws pc lv (.int y :: .long x :: st) := sorry
theorem g_lcmp (C : GC X g cc nL own ret rm) {x y : Int64} (d : decode cc pc = .ok (.lcmp, 1)) (kk : G X g nL n k ws (pc + 1) lv (.int (lg_cmp x y) :: st)) : G X g nL n k ws pc lv (.long y :: .long x :: st) := sorry
theorem g_dup (C : GC X g cc nL own ret rm) {a : Value} (d : decode cc pc = .ok (.dup, 1)) (ha : a.category = 1) (kk : G X g nL n k ws (pc + 1) lv (a :: a :: st)) : G X g nL n k ws pc lv (a :: st) := sorry
theorem g_pop (C : GC X g cc nL own ret rm) {a : Value} (d : decode cc pc = .ok (.pop, 1)) (ha : a.category = 1) (kk : G X g nL n k ws (pc + 1) lv st) : G X g nL n k ws pc lv (a :: st) := sorry
theorem g_dup_x1 (C : GC X g cc nL own ret rm) {a b : Value} (d : decode cc pc = .ok (.dup_x1, 1)) (ha : a.category = 1) (hb : b.category = 1) (kk : G X g nL n k ws (pc + 1) lv (a :: b :: a :: st)) : G X g nL n k ws pc lv (a :: b :: st) := sorry
theorem g_dup2 (C : GC X g cc nL own ret rm) {a b : Value} (d : decode cc pc = .ok (.dup2, 1)) (ha : a.category = 1) (hb : b.category = 1) (kk : G X g nL n k ws (pc + 1) lv (a :: b :: a :: b :: st)) : G X g nL n k ws pc lv (a :: b :: st) := sorry
theorem g_if_eq (C : GC X g cc nL own ret rm) {x : Int32} {off : Int} {tgt : Nat} (d : decode cc pc = .ok (.ifCond .eq off, 3)) (ht : (pc : Int) + off = (tgt : Int)) (kt : x = 0 → G X g nL n k ws tgt lv st) (kf : ¬ x = 0 → G X g nL n k ws (pc + 3) lv st) : G X g nL n k ws pc lv (.int x :: st) := sorry
theorem g_icmp_eq (C : GC X g cc nL own ret rm) {x y : Int32} {off : Int} {tgt : Nat} (d : decode cc pc = .ok (.if_icmp .eq off, 3)) (ht : (pc : Int) + off = (tgt : Int)) (kt : x = y → G X g nL n k ws tgt lv st) (kf : ¬ x = y → G X g nL n k ws (pc + 3) lv st) : G X g nL n k ws pc lv (.int y :: .int x :: st) := sorry
theorem g_if_ne (C : GC X g cc nL own ret rm) {x : Int32} {off : Int} {tgt : Nat} (d : decode cc pc = .ok (.ifCond .ne off, 3)) (ht : (pc : Int) + off = (tgt : Int)) (kt : ¬ x = 0 → G X g nL n k ws tgt lv st) (kf : x = 0 → G X g nL n k ws (pc + 3) lv st) : G X g nL n k ws pc lv (.int x :: st) := sorry
theorem g_icmp_ne (C : GC X g cc nL own ret rm) {x y : Int32} {off : Int} {tgt : Nat} (d : decode cc pc = .ok (.if_icmp .ne off, 3)) (ht : (pc : Int) + off = (tgt : Int)) (kt : ¬ x = y → G X g nL n k ws tgt lv st) (kf : x = y → G X g nL n k ws (pc + 3) lv st) : G X g nL n k ws pc lv (.int y :: .int x :: st) := sorry
theorem g_if_lt (C : GC X g cc nL own ret rm) {x : Int32} {off : Int} {tgt : Nat} (d : decode cc pc = .ok (.ifCond .lt off, 3)) (ht : (pc : Int) + off = (tgt : Int)) (kt : x < 0 → G X g nL n k ws tgt lv st) (kf : ¬ x < 0 → G X g nL n k ws (pc + 3) lv st) : G X g nL n k ws pc lv (.int x :: st) := sorry
theorem g_icmp_lt (C : GC X g cc nL own ret rm) {x y : Int32} {off : Int} {tgt : Nat} (d : decode cc pc = .ok (.if_icmp .lt off, 3)) (ht : (pc : Int) + off = (tgt : Int)) (kt : x < y → G X g nL n k ws tgt lv st) (kf : ¬ x < y → G X g nL n k ws (pc + 3) lv st) : G X g nL n k ws pc lv (.int y :: .int x :: st) := sorry
theorem g_if_ge (C : GC X g cc nL own ret rm) {x : Int32} {off : Int} {tgt : Nat} (d : decode cc pc = .ok (.ifCond .ge off, 3)) (ht : (pc : Int) + off = (tgt : Int)) (kt : 0 ≤ x → G X g nL n k ws tgt lv st) (kf : ¬ 0 ≤ x → G X g nL n k ws (pc + 3) lv st) : G X g nL n k ws pc lv (.int x :: st) := sorry
theorem g_icmp_ge (C : GC X g cc nL own ret rm) {x y : Int32} {off : Int} {tgt : Nat} (d : decode cc pc = .ok (.if_icmp .ge off, 3)) (ht : (pc : Int) + off = (tgt : Int)) (kt : y ≤ x → G X g nL n k ws tgt lv st) (kf : ¬ y ≤ x → G X g nL n k ws (pc + 3) lv st) : G X g nL n k ws pc lv (.int y :: .int x :: st) := sorry
theorem g_if_gt (C : GC X g cc nL own ret rm) {x : Int32} {off : Int} {tgt : Nat} (d : decode cc pc = .ok (.ifCond .gt off, 3)) (ht : (pc : Int) + off = (tgt : Int)) (kt : 0 < x → G X g nL n k ws tgt lv st) (kf : ¬ 0 < x → G X g nL n k ws (pc + 3) lv st) : G X g nL n k ws pc lv (.int x :: st) := sorry
theorem g_icmp_gt (C : GC X g cc nL own ret rm) {x y : Int32} {off : Int} {tgt : Nat} (d : decode cc pc = .ok (.if_icmp .gt off, 3)) (ht : (pc : Int) + off = (tgt : Int)) (kt : y < x → G X g nL n k ws tgt lv st) (kf : ¬ y < x → G X g nL n k ws (pc + 3) lv st) : G X g nL n k ws pc lv (.int y :: .int x :: st) := sorry
theorem g_if_le (C : GC X g cc nL own ret rm) {x : Int32} {off : Int} {tgt : Nat} (d : decode cc pc = .ok (.ifCond .le off, 3)) (ht : (pc : Int) + off = (tgt : Int)) (kt : x ≤ 0 → G X g nL n k ws tgt lv st) (kf : ¬ x ≤ 0 → G X g nL n k ws (pc + 3) lv st) : G X g nL n k ws pc lv (.int x :: st) := sorry
theorem g_icmp_le (C : GC X g cc nL own ret rm) {x y : Int32} {off : Int} {tgt : Nat} (d : decode cc pc = .ok (.if_icmp .le off, 3)) (ht : (pc : Int) + off = (tgt : Int)) (kt : x ≤ y → G X g nL n k ws tgt lv st) (kf : ¬ x ≤ y → G X g nL n k ws (pc + 3) lv st) : G X g nL n k ws pc lv (.int y :: .int x :: st) := sorry
theorem g_goto (C : GC X g cc nL own ret rm) {off : Int} {tgt : Nat} (d : decode cc pc = .ok (.goto off, 3)) (ht : (pc : Int) + off = (tgt : Int)) (kk : G X g nL n k ws tgt lv st) : G X g nL n k ws pc lv st := sorry
theorem g_ldc (C : GC X g cc nL own ret rm) {idx : Nat} {v : Int32} (q : Cond.constant own idx v ∈ lw_all) (d : decode cc pc = .ok (.ldc idx, 2)) (kk : G X g nL n k ws (pc + 2) lv (.int v :: st)) : G X g nL n k ws pc lv st := sorry
theorem g_ldc2 (C : GC X g cc nL own ret rm) {idx : Nat} {v : Int64} (q : Cond.constantLong own idx v ∈ lw_all) (d : decode cc pc = .ok (.ldc2_w idx, 3)) (kk : G X g nL n k ws (pc + 3) lv (.long v :: st)) : G X g nL n k ws pc lv st := sorry
theorem g_tableOut (C : GC X g cc nL own ret rm) {dflt lo hi : Int} {offs : Array Int} {len : Nat} {x : Int32} {tgt : Nat} (d : decode cc pc = .ok (.tableswitch dflt lo hi offs, len)) (h : x.toInt < lo ∨ hi < x.toInt) (ht : (pc : Int) + dflt = (tgt : Int)) (kk : G X g nL n k ws tgt lv st) : G X g nL n k ws pc lv (.int x :: st) := sorry
theorem g_tableIn (C : GC X g cc nL own ret rm) {dflt lo hi : Int} {offs : Array Int} {len : Nat} {x : Int32} {off : Int} {tgt : Nat} (d : decode cc pc = .ok (.tableswitch dflt lo hi offs, len)) (h1 : ¬ x.toInt < lo) (h2 : ¬ hi < x.toInt) (ho : offs[(x.toInt - lo).toNat]? = some off) (ht : (pc : Int) + off = (tgt : Int)) (kk : G X g nL n k ws tgt lv st) : G X g nL n k ws pc lv (.int x :: st) := sorry
theorem g_top {x y : Int32} (h : x = y) (kk : G X g nL n k ws pc lv (.int y :: st)) : G X g nL n k ws pc lv (.int x :: st) := sorry
theorem g_lv {lv9 : List (Nat × Value)} (ks : List Nat) (h : lv_pick lv ks = lv9) (kk : G X g nL n k ws pc lv9 st) : G X g nL n k ws pc lv st := sorry
theorem g_ws {ws9 : va_W} (h : ws = ws9) (kk : G X g nL n k ws9 pc lv st) : G X g nL n k ws pc lv st := sorry
theorem g_perm {ws9 : va_W} (h : ws.Perm ws9) (kk : G X g nL n k ws9 pc lv st) : G X g nL n k ws pc lv st := sorry
theorem g_drop {ws8 ws9 : va_W} (h : ws.Perm (ws9 ++ ws8)) (kk : G X g nL n k ws9 pc lv st) : G X g nL n k ws pc lv st := sorry
theorem g_iret {v : Int32} (C : GC X g cc nL own (some .int) rm) (hQ : gQ g = MQ (gB g) (qQ X Qp (gF g)) (gA g) (gS g) mc ms (gF g)) (d : decode cc pc = .ok (.ireturn, 1)) (h1 : n ≤ mc) (h2 : k ≤ ms) (hp : Qp (some (.int v)) ws) : G X g nL n k ws pc lv [.int v] := sorry
theorem g_zret {v : Int32} (C : GC X g cc nL own (some .boolean) rm) (hQ : gQ g = MQ (gB g) (qQ X Qp (gF g)) (gA g) (gS g) mc ms (gF g)) (d : decode cc pc = .ok (.ireturn, 1)) (hv : narrow .boolean (.int v) = .int v) (h1 : n ≤ mc) (h2 : k ≤ ms) (hp : Qp (some (.int v)) ws) : G X g nL n k ws pc lv [.int v] := sorry
theorem g_lret {v : Int64} (C : GC X g cc nL own (some .long) rm) (hQ : gQ g = MQ (gB g) (qQ X Qp (gF g)) (gA g) (gS g) mc ms (gF g)) (d : decode cc pc = .ok (.lreturn, 1)) (h1 : n ≤ mc) (h2 : k ≤ ms) (hp : Qp (some (.long v)) ws) : G X g nL n k ws pc lv [.long v] := sorry
theorem g_vret (C : GC X g cc nL own none rm) (hQ : gQ g = MQ (gB g) (qQ X Qp (gF g)) (gA g) (gS g) mc ms (gF g)) (d : decode cc pc = .ok (.return_, 1)) (h1 : n ≤ mc) (h2 : k ≤ ms) (hp : Qp none ws) : G X g nL n k ws pc lv [] := sorry
theorem g_aret {v : Value} {rt : FieldType} (C : GC X g cc nL own (some rt) rm) (hrt : (∃ n, rt = .object n) ∨ ∃ t, rt = .array t) (hv : v = .null ∨ ∃ a, v = .ref a) (hQ : gQ g = MQ (gB g) (qQ X Qp (gF g)) (gA g) (gS g) mc ms (gF g)) (d : decode cc pc = .ok (.areturn, 1)) (h1 : n ≤ mc) (h2 : k ≤ ms) (hp : Qp (some v) ws) : G X g nL n k ws pc lv [v] := sorry
theorem g_ldcS {idx i : Nat} {tx : String} (C : GC X g cc nL own ret rm) (hr : (own, idx, tx, i) ∈ kRow) (d : decode cc pc = .ok (.ldc idx, 2)) (kk : G X g nL n k ws (pc + 2) lv (.ref (xA X i) :: st)) : G X g nL n k ws pc lv st := sorry
theorem g_kget {o nm ds ref : String} {idx q : Nat} {v : Value} (C : GC X g cc nL own ret rm) (hE : va_OF o nm ds v q (gF g) (gS g) (gS g).heap) (hlk : Cond.fieldLink own idx ref nm ds ∈ lw_all) (hsame : ∀ x, (gS g).fieldFound? o nm ds = some x → (gS g).fieldFound? ref nm ds = some x) (d : decode cc pc = .ok (.getfield idx, 3)) (kk : G X g nL n k ws (pc + 3) lv (v :: st)) : G X g nL n k ws pc lv (.ref q :: st) := sorry
theorem g_gets {cn nm ds ref : String} {idx : Nat} {v : Value} (C : GC X g cc nL own ret rm) (hZ : va_Z cn nm ds v (gF g) (gS g) (gS g).heap) (hlk : Cond.fieldLink own idx ref nm ds ∈ lw_all) (hsame : ∀ x, (gS g).fieldFound? cn nm ds = some x → (gS g).fieldFound? ref nm ds = some x) (d : decode cc pc = .ok (.getstatic idx, 3)) (kk : G X g nL n k ws (pc + 3) lv (v :: st)) : G X g nL n k ws pc lv st := sorry
theorem g_tb {t N : Nat} {f : Nat → Value} {i : Int32} {j : Nat} {v : Value} (C : GC X g cc nL own ret rm) (hT : va_T .byte t N f (gF g) (gS g) (gS g).heap) (hi : vp_in i N ∧ i.toNatClampNeg = j) (hv : f j = v) (d : decode cc pc = .ok (.baload, 1)) (kk : G X g nL n k ws (pc + 1) lv (v :: st)) : G X g nL n k ws pc lv (.int i :: .ref t :: st) := sorry
theorem g_ti {t N : Nat} {f : Nat → Value} {i : Int32} {j : Nat} {v : Value} (C : GC X g cc nL own ret rm) (hT : va_T .int t N f (gF g) (gS g) (gS g).heap) (hi : vp_in i N ∧ i.toNatClampNeg = j) (hv : f j = v) (d : decode cc pc = .ok (.iaload, 1)) (kk : G X g nL n k ws (pc + 1) lv (v :: st)) : G X g nL n k ws pc lv (.int i :: .ref t :: st) := sorry
theorem g_tlen {ty : FieldType} {t N : Nat} {f : Nat → Value} {v : Int32} (C : GC X g cc nL own ret rm) (hT : va_T ty t N f (gF g) (gS g) (gS g).heap) (hv : Int32.ofNat N = v) (d : decode cc pc = .ok (.arraylength, 1)) (kk : G X g nL n k ws (pc + 1) lv (.int v :: st)) : G X g nL n k ws pc lv (.ref t :: st) := sorry
theorem g_zty {v : Int32} {ty : FieldType} (C : GC X g cc nL own (some ty) rm) (hQ : gQ g = MQ (gB g) (qQ X Qp (gF g)) (gA g) (gS g) mc ms (gF g)) (d : decode cc pc = .ok (.ireturn, 1)) (hv : narrow ty (.int v) = .int v) (h1 : n ≤ mc) (h2 : k ≤ ms) (hp : Qp (some (.int v)) ws) : G X g nL n k ws pc lv [.int v] := sorry
def ix (i : Int32) (j N : Nat) : Prop := vp_in i N ∧ i.toNatClampNeg = j
theorem ix_lit {i : Int32} {j N : Nat} (h : (decide (¬ (i < 0)) && decide (i.toNatClampNeg < N) && decide (i.toNatClampNeg = j)) = true) : ix i j N := sorry
theorem g_lveq {lv9 : List (Nat × Value)} (h : lv = lv9) (kk : G X g nL n k ws pc lv9 st) : G X g nL n k ws pc lv st := sorry
theorem g_steq {st9 : List Value} (h : st = st9) (kk : G X g nL n k ws pc lv st9) : G X g nL n k ws pc lv st := sorry
theorem ix_nI {j N : Nat} (h : j < N) (hN : N < 2 ^ 31) : ix (nI j) j N := sorry
end LAYER

