set_option maxRecDepth 100000
theorem pmL {α : Type} (a : List α) (c : α) (b : List α) : (a ++ (c :: b)).Perm (b ++ (a ++ [c])) := sorry
theorem lg_rf (x : Int64) : lg_cmp x x = 0 := sorry
/-- what stands around the walk of the law -/
abbrev LC (X : xT) (g : gT) (b L : Nat) (xs : Nat → Int32) : Prop := GC X g code 7 RX0 ret room_1 ∧ va_X b L xs (gS g) (gS g).heap ∧ b < (gS g).heap.size ∧ ¬ gF g b ∧ L ≤ 384
section LAW
variable {X : xT} {g : gT} {n k pc : Nat} {lv : List (Nat × Value)} {st rest : List Value} {ws : va_W}
theorem l_sld {b L : Nat} {xs : Nat → Int32} (hC : LC X g b L xs) {i : Int32} {j : Nat} (hi : i = nI j) (hj : j < L) (d : decode code pc = .ok (.iaload, 1)) (kk : G X g 7 n k ws (pc + 1) lv (.int (xs j) :: st)) : G X g 7 n k ws pc lv (.int i :: .ref b :: st) := sorry
theorem l_slen {b L : Nat} {xs : Nat → Int32} (hC : LC X g b L xs) (d : decode code pc = .ok (.arraylength, 1)) (kk : G X g 7 n k ws (pc + 1) lv (.int (nI L) :: st)) : G X g 7 n k ws pc lv (.ref b :: st) := sorry
theorem l_out {wd R : va_W} {o : Nat} {u : Nat → Int64} (C : GC X g code 7 RX0 ret room_1) (d : decode code pc = .ok (.laload, 1)) (kk : G X g 7 n k (wd ++ (outC X o u :: R)) (pc + 1) lv (.long (u 0) :: st)) : G X g 7 n k (wd ++ (outC X o u :: R)) pc lv (.int 0 :: .ref o :: st) := sorry
/-- a call of the model -/
theorem l_M {y : MethodName} {ccy : ByteArray} {nLy j idx na h : Nat} {rety : Option FieldType} {As : List Value} {v v1 : MV} {r : Option Value} {ad : Nat → Nat} {wd : va_W} {oc : Nat × va_E} (C : GC X g code 7 RX0 ret room_1) (hM : MM X h ad y ccy nLy rety j As v r v1) (hw : GoodIn lw_all (wsV RX0 idx RX4 y (ws_ y ccy nLy rety)))
    (hd : y.cls = RX4 ∧ y.cls ≠ "java/lang/invoke/MethodHandle" ∧ y.cls ≠ "java/lang/invoke/VarHandle" ∧ (parseMethodDescriptor y.desc).map (fun d => d.parameters.length) = some na) (hR : (rmL j).frames + 1 ≤ room_1.frames ∧ 8 + (nLy + 11) + (rmL j).locals ≤ room_1.locals) (hcs : n ≤ 603072 ∧ k ≤ 7178346) (hn : As.length = na)
    (hst : st = As.reverse ++ .ref h :: rest) (hcat : (rest.map fun v => v.category).sum ≤ 8) (d : decode code pc = .ok (.invokevirtual idx, 3))
    (kk : G X g 7 n k (wd ++ (oc :: mW X h ad v1)) (pc + 3) lv (r.toList ++ rest)) : G X g 7 n k (wd ++ (oc :: mW X h ad v)) pc lv st := sorry
end LAW

