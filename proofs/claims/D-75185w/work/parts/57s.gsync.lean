/-! Throwable.getCause: synchronized, on an object whose monitor nobody holds -/
set_option maxRecDepth 100000
def yGC : MethodName := ⟨"java/lang/Throwable", "getCause", "()Ljava/lang/Throwable;"⟩
abbrev cGC : ByteArray := prog_41_method_8_code
abbrev rGC : Option FieldType := some (.object "java/lang/Throwable")
theorem dGC_0 : decode cGC 0 = .ok (.aload_n 0, 1) := sorry
theorem dGC_1 : decode cGC 1 = .ok (.getfield 7, 3) := sorry
theorem dGC_4 : decode cGC 4 = .ok (.aload_n 0, 1) := sorry
theorem dGC_5 : decode cGC 5 = .ok (.if_acmp .ne 7, 3) := sorry
theorem dGC_12 : decode cGC 12 = .ok (.aload_n 0, 1) := sorry
theorem dGC_13 : decode cGC 13 = .ok (.getfield 7, 3) := sorry
theorem dGC_16 : decode cGC 16 = .ok (.areturn, 1) := sorry
def gcS : Spec := headSpec (Cond.codeSync yGC cGC 1 rGC :: lw_all) (rmC 0 0 0)
/-- an object q whose monitor is free, with the cause v -/
def gcP (q : Nat) (v : Value) : Array Value → State → Prop := fun a U => a = #[.ref q] ∧ ∃ (cell : Cell) (cf i : Nat) (k : Class) (f : Field), U.heap[q]? = some cell ∧ cell.vm = .none ∧ (cell.monitor.owner = none ∧ cell.monitor.count = 0) ∧ U.fieldFound? "java/lang/Throwable" "cause" "Ljava/lang/Throwable;" = some (cf, k, i, f) ∧ f.isStatic = false ∧ cell.slots[f.slot]? = some v
def gcQ (v : Value) : Array Value → State → Outcome → State → Prop := fun _ st o t => o = .returned (some v) ∧ t.heap = st.heap ∧ FrameEnd st o t [] 0 0
abbrev FS (a : Nat) (m : MethodId) (pc : Nat) (ls : Array Slot) (st : List Value) : JFrame := { method := m, pc := pc, locals := ls, stack := st, locked := some a, monitorRoom := 1 }
section GS
variable {p : Program} {l : Launch} {e : Env} {R : Room} {s : State} {m : MethodId} {args : Array Value} {below : List Frame} {meth : Method} {c : Code} {H : Heap} {locs : List Loc} {cells slots : Nat} {Q : State → Prop} {cc : ByteArray} {pc a : Nat} {ls : Array Slot} {rest : List Value}
theorem gs_aload (hexec : p.tables.exec = Jvm.exec) (hb : c.code = cc) {x : Nat} (hdg : decode cc pc = .ok (.aload_n 0, 1)) (hl : ls[0]? = some (.val (.ref x))) (k : W p l e R s m args below meth c H locs cells slots Q (FS a m (pc + 1) ls (.ref x :: rest))) : W p l e R s m args below meth c H locs cells slots Q (FS a m pc ls rest) := sorry
theorem gs_acmp (hexec : p.tables.exec = Jvm.exec) (hb : c.code = cc) {rx : Option Nat} {ry : Nat} {off : Int} {tgt : Nat} (hdg : decode cc pc = .ok (.if_acmp .ne off, 3)) (ht : (pc : Int) + off = (tgt : Int)) (hne : ¬ rx = some ry) (k : W p l e R s m args below meth c H locs cells slots Q (FS a m tgt ls rest)) : W p l e R s m args below meth c H locs cells slots Q (FS a m pc ls (.ref ry :: va_rf rx :: rest)) := sorry
end GS
theorem gc_free (l : Launch) (q : Nat) (cz : Option Nat) (hne : ¬ cz = some q) : MetFree l yGC gcS (gcP q (va_rf cz)) (fun _ _ _ _ _ => True) (gcQ (va_rf cz)) := sorry
theorem gm_getCause {X : xT} {g : gT} {cc : ByteArray} {nL n k : Nat} {ret : Option FieldType} {rm : Room} {ws : va_W} {pc : Nat} {lv : List (Nat × Value)} {st : List Value} {qs : List Nat} {q ci q0 : Nat} {T : u_T} {Cn : String} {c0 : Int32} {cz : Option Nat} (C : GC X g cc nL RX3 ret rm) (hm : q ∈ qs) (hq : ws[q0]? = some (q, .inr (ci, trF c0 cz))) (hc : vwCl[ci]? = some (Cn, T, 7)) (hin : ∀ w ∈ u_ws Cn T 7, w ∈ lw_all) (hT1 : (T 1).1 = "java/lang/Throwable" ∧ (T 1).2.1 = "cause" ∧ (T 1).2.2.1 = "Ljava/lang/Throwable;") (hsel : Cond.selects Cn ⟨"LabelDriver$Trouble", "getCause", "()Ljava/lang/Throwable;"⟩ ⟨"java/lang/Throwable", "getCause", "()Ljava/lang/Throwable;"⟩ ∈ lw_all) (hne : ¬ cz = some q) (hR : 1 ≤ rm.frames ∧ 40 ≤ rm.locals) (hcs : n ≤ rm.cells ∧ k ≤ rm.slots) (hcat : (st.map fun v => v.category).sum ≤ 8) (d : decode cc pc = .ok (.invokevirtual 283, 3)) (kk : GM X g qs nL n k ws (pc + 3) lv (va_rf cz :: st)) : GM X g qs nL n k ws pc lv (.ref q :: st) := sorry
