/-! the component's own exceptions: their constructors -/
set_option maxRecDepth 100000
set_option maxHeartbeats 4000000 in
theorem w_thr_X10 (X : xT) (q : Nat) (cz : Option Nat) : MetQ X yJ4_init_3 cJ4_init_3 5 none (rmC 1 0 0) 0 0 [.ref q, .null, va_rf cz, .int 0, .int 0] [(q, .inr (8, [.int 0, .null, .null, .null, .null, .null, .int 0]))] (eqQ none [(q, .inr (8, [.int 0, (va_rf cz), .null, .null, .null, .null, .int 0]))]) := sorry
set_option maxHeartbeats 4000000 in
theorem w_exc_X10 (X : xT) (q : Nat) (cz : Option Nat) : MetQ X yJ5_init_3 cJ5_init_3 5 none (rmC 2 0 0) 0 0 [.ref q, .null, va_rf cz, .int 0, .int 0] [(q, .inr (8, [.int 0, .null, .null, .null, .null, .null, .int 0]))] (eqQ none [(q, .inr (8, [.int 0, (va_rf cz), .null, .null, .null, .null, .int 0]))]) := sorry
set_option maxHeartbeats 4000000 in
theorem w_tro_X10 (X : xT) (q : Nat) (c : Int32) (cz : Option Nat) : MetQ X yX9_init cX9_init 3 none (rmC 3 0 0) 0 0 [.ref q, .int c, va_rf cz] [(q, .inr (8, [.int 0, .null, .null, .null, .null, .null, .int 0]))] (eqQ none [(q, .inr (8, [.int c, (va_rf cz), .null, .null, .null, .null, .int 0]))]) := sorry
set_option maxHeartbeats 4000000 in
theorem w_new_X10 (X : xT) (q : Nat) : MetQ X yX10_init cX10_init 1 none (rmC 4 0 0) 0 0 [.ref q] [(q, .inr (8, [.int 0, .null, .null, .null, .null, .null, .int 0]))] (eqQ none [(q, .inr (8, [.int 2, .null, .null, .null, .null, .null, .int 0]))]) := sorry
set_option maxHeartbeats 4000000 in
theorem w_thr_X11 (X : xT) (q : Nat) (cz : Option Nat) : MetQ X yJ4_init_3 cJ4_init_3 5 none (rmC 1 0 0) 0 0 [.ref q, .null, va_rf cz, .int 0, .int 0] [(q, .inr (9, [.int 0, .null, .null, .null, .null, .null, .int 0]))] (eqQ none [(q, .inr (9, [.int 0, (va_rf cz), .null, .null, .null, .null, .int 0]))]) := sorry
set_option maxHeartbeats 4000000 in
theorem w_exc_X11 (X : xT) (q : Nat) (cz : Option Nat) : MetQ X yJ5_init_3 cJ5_init_3 5 none (rmC 2 0 0) 0 0 [.ref q, .null, va_rf cz, .int 0, .int 0] [(q, .inr (9, [.int 0, .null, .null, .null, .null, .null, .int 0]))] (eqQ none [(q, .inr (9, [.int 0, (va_rf cz), .null, .null, .null, .null, .int 0]))]) := sorry
set_option maxHeartbeats 4000000 in
theorem w_tro_X11 (X : xT) (q : Nat) (c : Int32) (cz : Option Nat) : MetQ X yX9_init cX9_init 3 none (rmC 3 0 0) 0 0 [.ref q, .int c, va_rf cz] [(q, .inr (9, [.int 0, .null, .null, .null, .null, .null, .int 0]))] (eqQ none [(q, .inr (9, [.int c, (va_rf cz), .null, .null, .null, .null, .int 0]))]) := sorry
set_option maxHeartbeats 4000000 in
theorem w_new_X11 (X : xT) (q : Nat) : MetQ X yX11_init cX11_init 1 none (rmC 4 0 0) 0 0 [.ref q] [(q, .inr (9, [.int 0, .null, .null, .null, .null, .null, .int 0]))] (eqQ none [(q, .inr (9, [.int 4, .null, .null, .null, .null, .null, .int 0]))]) := sorry
set_option maxHeartbeats 4000000 in
theorem w_thr_X15 (X : xT) (q : Nat) (cz : Option Nat) : MetQ X yJ4_init_3 cJ4_init_3 5 none (rmC 1 0 0) 0 0 [.ref q, .null, va_rf cz, .int 0, .int 0] [(q, .inr (13, [.int 0, .null, .null, .null, .null, .null, .int 0]))] (eqQ none [(q, .inr (13, [.int 0, (va_rf cz), .null, .null, .null, .null, .int 0]))]) := sorry
set_option maxHeartbeats 4000000 in
theorem w_exc_X15 (X : xT) (q : Nat) (cz : Option Nat) : MetQ X yJ5_init_3 cJ5_init_3 5 none (rmC 2 0 0) 0 0 [.ref q, .null, va_rf cz, .int 0, .int 0] [(q, .inr (13, [.int 0, .null, .null, .null, .null, .null, .int 0]))] (eqQ none [(q, .inr (13, [.int 0, (va_rf cz), .null, .null, .null, .null, .int 0]))]) := sorry
set_option maxHeartbeats 4000000 in
theorem w_tro_X15 (X : xT) (q : Nat) (c : Int32) (cz : Option Nat) : MetQ X yX9_init cX9_init 3 none (rmC 3 0 0) 0 0 [.ref q, .int c, va_rf cz] [(q, .inr (13, [.int 0, .null, .null, .null, .null, .null, .int 0]))] (eqQ none [(q, .inr (13, [.int c, (va_rf cz), .null, .null, .null, .null, .int 0]))]) := sorry
set_option maxHeartbeats 4000000 in
theorem w_new_X15 (X : xT) (q : Nat) : MetQ X yX15_init cX15_init 1 none (rmC 4 0 0) 0 0 [.ref q] [(q, .inr (13, [.int 0, .null, .null, .null, .null, .null, .int 0]))] (eqQ none [(q, .inr (13, [.int 1, .null, .null, .null, .null, .null, .int 0]))]) := sorry
set_option maxHeartbeats 4000000 in
theorem w_thr_X13 (X : xT) (q : Nat) (cz : Option Nat) : MetQ X yJ4_init_3 cJ4_init_3 5 none (rmC 1 0 0) 0 0 [.ref q, .null, va_rf cz, .int 0, .int 0] [(q, .inr (11, [.int 0, .null, .null, .null, .null, .null, .int 0]))] (eqQ none [(q, .inr (11, [.int 0, (va_rf cz), .null, .null, .null, .null, .int 0]))]) := sorry
set_option maxHeartbeats 4000000 in
theorem w_exc_X13 (X : xT) (q : Nat) (cz : Option Nat) : MetQ X yJ5_init_3 cJ5_init_3 5 none (rmC 2 0 0) 0 0 [.ref q, .null, va_rf cz, .int 0, .int 0] [(q, .inr (11, [.int 0, .null, .null, .null, .null, .null, .int 0]))] (eqQ none [(q, .inr (11, [.int 0, (va_rf cz), .null, .null, .null, .null, .int 0]))]) := sorry
set_option maxHeartbeats 4000000 in
theorem w_tro_X13 (X : xT) (q : Nat) (c : Int32) (cz : Option Nat) : MetQ X yX9_init cX9_init 3 none (rmC 3 0 0) 0 0 [.ref q, .int c, va_rf cz] [(q, .inr (11, [.int 0, .null, .null, .null, .null, .null, .int 0]))] (eqQ none [(q, .inr (11, [.int c, (va_rf cz), .null, .null, .null, .null, .int 0]))]) := sorry
set_option maxHeartbeats 4000000 in
theorem w_new_X13 (X : xT) (q : Nat) (cz : Option Nat) : MetQ X yX13_init cX13_init 2 none (rmC 4 0 0) 0 0 [.ref q, va_rf cz] [(q, .inr (11, [.int 0, .null, .null, .null, .null, .null, .int 0]))] (eqQ none [(q, .inr (11, [.int 3, (va_rf cz), .null, .null, .null, .null, .int 0]))]) := sorry
set_option maxHeartbeats 4000000 in
theorem w_thr_X6 (X : xT) (q : Nat) (cz : Option Nat) : MetQ X yJ4_init_3 cJ4_init_3 5 none (rmC 1 0 0) 0 0 [.ref q, .null, va_rf cz, .int 0, .int 0] [(q, .inr (5, [.null, .null, .null, .null, .null, .int 0, .int 0, .int 0]))] (eqQ none [(q, .inr (5, [(va_rf cz), .null, .null, .null, .null, .int 0, .int 0, .int 0]))]) := sorry
set_option maxHeartbeats 4000000 in
theorem w_exc_X6 (X : xT) (q : Nat) (cz : Option Nat) : MetQ X yJ5_init_3 cJ5_init_3 5 none (rmC 2 0 0) 0 0 [.ref q, .null, va_rf cz, .int 0, .int 0] [(q, .inr (5, [.null, .null, .null, .null, .null, .int 0, .int 0, .int 0]))] (eqQ none [(q, .inr (5, [(va_rf cz), .null, .null, .null, .null, .int 0, .int 0, .int 0]))]) := sorry
set_option maxHeartbeats 4000000 in
theorem w_new_X6 (X : xT) (q : Nat) (a b : Int32) : MetQ X yX6_init cX6_init 3 none (rmC 3 0 0) 0 0 [.ref q, .int a, .int b] [(q, .inr (5, [.null, .null, .null, .null, .null, .int 0, .int 0, .int 0]))] (eqQ none [(q, .inr (5, [.null, .null, .null, .null, .null, .int 0, .int a, .int b]))]) := sorry
/-- troubles by their codes: 1 RibbonOut, 2 WebOut, 3 Lost, 4 NoContrast -/
def trE (c : Int32) : String := if c = 1 then "LabelDriver$RibbonOut" else if c = 2 then "LabelDriver$WebOut" else if c = 3 then "LabelDriver$Lost" else "LabelDriver$NoContrast"
theorem trb_trE {c : Int32} : trb (trE c) = true := sorry
def trC (c : Int32) : Nat := if c = 1 then 13 else if c = 2 then 8 else if c = 3 then 11 else 9
def trF (c : Int32) (cz : Option Nat) : List Value := [.int c, va_rf cz, .null, .null, .null, .null, .int 0]
/-- a State's method with its roll that returns (c = 0) or throws the trouble c with the cause cz -/
def CT (X : xT) (ad : Nat → Nat) (dv sg rl bg : Nat → Int32) (y : MethodName) (cc : ByteArray) (nL j mc ms : Nat) (av : List Value) (v : MV) (c : Int32) (v1 : MV) (cz : Option Nat) : Prop :=
  MetX X y (.code y cc nL none) (rmC j mc ms) mc ms (.ref (ad 102) :: av) (bW X ad dv sg (some (ad 120)) v (rW X ad rl bg [])) (fun r w => c = 0 ∧ r = none ∧ w = bW X ad dv sg (some (ad 120)) v1 (rW X ad rl bg [])) (fun E q w => ¬ c = 0 ∧ E = trE c ∧ w = bW X ad dv sg (some (ad 120)) v1 (rW X ad rl bg [(q, .inr (trC c, trF c cz))]))
section THROWS
variable {X : xT} {g : gT} {cc : ByteArray} {nL n k : Nat} {ret : Option FieldType} {rm : Room} {ws : va_W} {pc : Nat} {lv : List (Nat × Value)} {st : List Value}
theorem s_thr2 (C : GC X g cc nL RX3 ret rm) (d0 : decode cc pc = .ok (.new 157, 3)) (d3 : decode cc (pc + 3) = .ok (.dup, 1)) (d4 : decode cc (pc + 4) = .ok (.invokespecial 159, 3)) (d7 : decode cc (pc + 7) = .ok (.athrow, 1)) (h1 : n + 1 ≤ rm.cells) (h2 : k + 7 ≤ rm.slots) (hf : 5 ≤ rm.frames) (hlo : 200 ≤ rm.locals) (hcat : (st.map fun v => v.category).sum ≤ 6) (kk : ∀ q : Nat, TH X g nL (n + 1) (k + 7) (ws ++ [(q, .inr (8, trF 2 none))]) (pc + 7) lv "LabelDriver$WebOut" q) : G X g nL n k ws pc lv st := sorry
theorem s_thr4 (C : GC X g cc nL RX3 ret rm) (d0 : decode cc pc = .ok (.new 167, 3)) (d3 : decode cc (pc + 3) = .ok (.dup, 1)) (d4 : decode cc (pc + 4) = .ok (.invokespecial 169, 3)) (d7 : decode cc (pc + 7) = .ok (.athrow, 1)) (h1 : n + 1 ≤ rm.cells) (h2 : k + 7 ≤ rm.slots) (hf : 5 ≤ rm.frames) (hlo : 200 ≤ rm.locals) (hcat : (st.map fun v => v.category).sum ≤ 6) (kk : ∀ q : Nat, TH X g nL (n + 1) (k + 7) (ws ++ [(q, .inr (9, trF 4 none))]) (pc + 7) lv "LabelDriver$NoContrast" q) : G X g nL n k ws pc lv st := sorry
theorem s_thr3N (C : GC X g cc nL RX3 ret rm) (d0 : decode cc pc = .ok (.new 182, 3)) (d3 : decode cc (pc + 3) = .ok (.dup, 1)) (d9 : decode cc (pc + 4) = .ok (.aconst_null, 1)) (d4 : decode cc (pc + 5) = .ok (.invokespecial 184, 3)) (d7 : decode cc (pc + 8) = .ok (.athrow, 1)) (h1 : n + 1 ≤ rm.cells) (h2 : k + 7 ≤ rm.slots) (hf : 5 ≤ rm.frames) (hlo : 200 ≤ rm.locals) (hcat : (st.map fun v => v.category).sum ≤ 6) (kk : ∀ q : Nat, TH X g nL (n + 1) (k + 7) (ws ++ [(q, .inr (11, trF 3 none))]) (pc + 8) lv "LabelDriver$Lost" q) : G X g nL n k ws pc lv st := sorry
theorem s_thr3 {cz : Option Nat} {f : Fin 4} {i : Nat} (C : GC X g cc nL RX3 ret rm) (q0 : Nat) (d0 : decode cc pc = .ok (.new 182, 3)) (d3 : decode cc (pc + 3) = .ok (.dup, 1)) (d9 : decode cc (pc + 4) = .ok (.aload_n f, 1)) (d4 : decode cc (pc + 5) = .ok (.invokespecial 184, 3)) (d7 : decode cc (pc + 8) = .ok (.athrow, 1)) (hi : (f : Nat) = i) (hq : lv[q0]? = some (i, va_rf cz)) (h1 : n + 1 ≤ rm.cells) (h2 : k + 7 ≤ rm.slots) (hf : 5 ≤ rm.frames) (hlo : 200 ≤ rm.locals) (hcat : (st.map fun v => v.category).sum ≤ 6) (kk : ∀ q : Nat, TH X g nL (n + 1) (k + 7) (ws ++ [(q, .inr (11, trF 3 cz))]) (pc + 8) lv "LabelDriver$Lost" q) : G X g nL n k ws pc lv st := sorry
theorem s_thr1 (C : GC X g cc nL RX3 ret rm) (d0 : decode cc pc = .ok (.new 229, 3)) (d3 : decode cc (pc + 3) = .ok (.dup, 1)) (d4 : decode cc (pc + 4) = .ok (.invokespecial 231, 3)) (d7 : decode cc (pc + 7) = .ok (.athrow, 1)) (h1 : n + 1 ≤ rm.cells) (h2 : k + 7 ≤ rm.slots) (hf : 5 ≤ rm.frames) (hlo : 200 ≤ rm.locals) (hcat : (st.map fun v => v.category).sum ≤ 6) (kk : ∀ q : Nat, TH X g nL (n + 1) (k + 7) (ws ++ [(q, .inr (13, trF 1 none))]) (pc + 7) lv "LabelDriver$RibbonOut" q) : G X g nL n k ws pc lv st := sorry
end THROWS

