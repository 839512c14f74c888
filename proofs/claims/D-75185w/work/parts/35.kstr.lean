/-! String's methods on the ten words of the texts -/
set_option maxRecDepth 100000
def kch (i j : Nat) : Int32 := (kByt.getD i []).getD j 0 &&& 255
theorem w_Jci (X : xT) (a b : Int32) (r : Option Nat) (h0 : ¬ a < 0) (h1 : a < b) : MetQ X yJ15_checkIndex cJ15_checkIndex 3 (some .int) (rmL 0) 0 0 [.int a, .int b, va_rf r] [] (eqQ (some (.int a)) []) := sorry
theorem w_Kci (X : xT) (a b : Int32) (h0 : ¬ a < 0) (h1 : a < b) : MS X yJ10_checkIndex cJ10_checkIndex 2 none 1 [.int a, .int b] none := sorry
theorem kLen_small {i : Nat} (hi : i < 10) : kLen.getD i 0 ≤ 5 := sorry
theorem w_Lat (X : xT) (i j : Nat) (hi : i < 10) (hj : j < kLen.getD i 0) : MetQ X yJ16_charAt cJ16_charAt 2 (some .char) (rmL 2) 0 0 [.ref (xA X (100 + i)), .int (nI j)] [] (eqQ (some (.int (kch i j))) []) := sorry
theorem w_Kcoder (X : xT) (i : Nat) (hi : i < 10) : MetQ X yJ10_coder cJ10_coder 1 (some .byte) (rmL 0) 0 0 [.ref (xA X i)] [] (eqQ (some (.int 0)) []) := sorry
theorem w_Klat (X : xT) (i : Nat) (hi : i < 10) : MetQ X yJ10_isLatin1 cJ10_isLatin1 1 (some .boolean) (rmL 0) 0 0 [.ref (xA X i)] [] (eqQ (some (.int 1)) []) := sorry
/-- a call on a word: its cell isn't the world's -/
theorem k_call {X : xT} {g : gT} {cc : ByteArray} {nL : Nat} {own : String} {ret : Option FieldType} {pc : Nat} {lv : List (Nat × Value)} {st rest : List Value} {J j i : Nat} {y : MethodName} {ccy : ByteArray} {nLy : Nat} {rety : Option FieldType} {As : List Value} {idx na : Nat} {r : Option Value} {ws : va_W} (C : GC X g cc nL own ret (rmL J)) (hi : i < 10) (hM : MetQ X y ccy nLy rety (rmL j) 0 0 (.ref (xA X i) :: As) [] (eqQ r [])) (hw : GoodIn lw_all (wsV own idx "java/lang/String" y (ws_ y ccy nLy rety)))
    (hd : y.cls = "java/lang/String" ∧ y.cls ≠ "java/lang/invoke/MethodHandle" ∧ y.cls ≠ "java/lang/invoke/VarHandle" ∧ (parseMethodDescriptor y.desc).map (fun d => d.parameters.length) = some na) (hj : j + 1 ≤ J) (hL : nLy ≤ 21) (hn : As.length = na)
    (hst : st = As.reverse ++ .ref (xA X i) :: rest) (hcat : (rest.map fun v => v.category).sum ≤ 8) (d : decode cc pc = .ok (.invokevirtual idx, 3))
    (kk : G X g nL 0 0 ws (pc + 3) lv (r.toList ++ rest)) : G X g nL 0 0 ws pc lv st := sorry
theorem w_Klen (X : xT) (i : Nat) (hi : i < 10) : MetQ X yJ10_length cJ10_length 1 (some .int) (rmL 1) 0 0 [.ref (xA X i)] [] (eqQ (some (.int (nI (kLen.getD i 0)))) []) := sorry
theorem w_Kcat (X : xT) (i j : Nat) (hi : i < 10) (hj : j < kLen.getD i 0) : MetQ X yJ10_charAt cJ10_charAt 2 (some .char) (rmL 3) 0 0 [.ref (xA X i), .int (nI j)] [] (eqQ (some (.int (kch i j))) []) := sorry
