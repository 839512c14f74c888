/-! what holds at the start, out of the given premises: classes, arrays of numbers, statics, texts -/
set_option maxRecDepth 100000
abbrev nwL : List Cond := flatC (Jvm.Cond.and given_1 narrow_1)
abbrev nwH (args : Array Value) (s : State) : Prop := ∀ w ∈ nwL, w.before args s = true
abbrev twH (args : Array Value) (s : State) : Prop := ∀ w ∈ lw_tbl, w.before args s = true
theorem nw_g {args : Array Value} {s : State} (h : nwH args s) {w : Cond} (i : Nat) (e : nwL[i]? = some w) : w.before args s = true := sorry
theorem st_all {args : Array Value} {s : State} (h : twH args s) : ∀ w ∈ lw_all, w.before args s = true := sorry
theorem st_tys {args : Array Value} {s : State} (hts : twH args s) : ∃ Y : Nat → ClassId, ∀ (k : Nat) (q : ClassId × FieldType), ([(Y 0, .int), (Y 1, .long), (Y 2, .boolean), (Y 3, .byte), (Y 4, .object "java/lang/Object")] : List (ClassId × FieldType))[k]? = some q → ArrOfT s q.1 q.2 ∧ va_RA s q.1 q.2 := sorry
theorem st_cls {args : Array Value} {s : State} (hts : twH args s) : ∃ D : va_G, ∀ (c : Nat) (q : vw_C), vwCl[c]? = some q → u_Kn s q.1 q.2.1 q.2.2 (D.1 c) (D.2 c) := sorry
theorem st_SN {args : Array Value} {s : State} (hts : twH args s) (hnw : nwH args s) : SN s := sorry
/-- the ten texts: the entry of the model's file, its place among the premises, the entry of the parser's file -/
def kPl : List (Nat × Nat × Nat) := [(177, 878, 92), (178, 890, 94), (175, 866, 96), (156, 901, 135), (167, 912, 145), (168, 924, 147), (169, 935, 149), (170, 947, 154), (172, 959, 159), (173, 971, 164)]
abbrev kTm (i : Nat) : Term := .string "LabelDriverModel" (kPl.getD i (0, 0, 0)).1
abbrev kPt (i : Nat) : Term := .string "LabelDriver$Parser" (kPl.getD i (0, 0, 0)).2.2
abbrev kVl (i : Nat) : Term := .field (kTm i) "java/lang/String" "value" "[B"
theorem k_p0 : ∀ i, i < 10 → nwL[(kPl.getD i (0, 0, 0)).2.1]? = some (Cond.exactly (kTm i) "java/lang/String") := sorry
theorem k_p1 : ∀ i, i < 10 → nwL[(kPl.getD i (0, 0, 0)).2.1 + 1]? = some (Cond.eq (.field (kTm i) "java/lang/String" "coder" "B") (.int 0)) := sorry
theorem k_p2 : ∀ i, i < 10 → nwL[(kPl.getD i (0, 0, 0)).2.1 + 2]? = some (Cond.arrayOf (kVl i) .byte) := sorry
theorem k_p3 : ∀ i, i < 10 → nwL[(kPl.getD i (0, 0, 0)).2.1 + 3]? = some (Cond.eq (.length (kVl i)) (.int (Int32.ofNat (kLen.getD i 0)))) := sorry
theorem k_p4 : ∀ i, i < 10 → ∀ j, j < kLen.getD i 0 → nwL[(kPl.getD i (0, 0, 0)).2.1 + 4 + j]? = some (Cond.eq (.elem (kVl i) (.int (Int32.ofNat j))) (.int ((kByt.getD i []).getD j 0))) := sorry
theorem k_p5 : ∀ i, i < 10 → nwL[(kPl.getD i (0, 0, 0)).2.1 + 6 + kLen.getD i 0]? = some (Cond.eq (kPt i) (kTm i)) := sorry
theorem k_len : ∀ i, i < 10 → kLen.getD i 0 < 2 ^ 31 := sorry
theorem k_dig : ∀ j, j < 100 → nwL[18 + j]? = some (Cond.eq (.elem (.static "java/lang/Integer" "DigitOnes" "[B") (.int (Int32.ofNat j))) (.int (nI (48 + j % 10)))) := sorry
theorem k_ten : ∀ j, j < 7 → nwL[229 + j]? = some (Cond.eq (.elem (.static "LabelDriver" "TENS" "[I") (.int (Int32.ofNat j))) (.int (tens j))) := sorry
theorem st_str {args : Array Value} {s : State} {A : Nat → Prop} (hnw : nwH args s) (hA : ∀ a : Nat, a < s.heap.size → ¬ A a) : ∃ q : Nat → Nat × Nat, ∀ i, i < 10 → (kTm i).eval args s none [] s = some (.ref (q i).1) ∧ va_O "java/lang/String" (q i).1 A s s.heap ∧ va_OF "java/lang/String" "coder" "B" (.int 0) (q i).1 A s s.heap ∧ va_OF "java/lang/String" "value" "[B" (.ref (q i).2) (q i).1 A s s.heap ∧ va_T .byte (q i).2 (kLen.getD i 0) (fun j => .int ((kByt.getD i []).getD j 0)) A s s.heap := sorry
/-- all that SF asks, for some addresses -/
theorem st_SF {args : Array Value} {s : State} {l : Launch} {A : Nat → Prop} (hl : l.flags = flags0) (hts : twH args s) (hnw : nwH args s) (hA : ∀ a : Nat, a < s.heap.size → ¬ A a) (D : va_G) (Y : Nat → ClassId) : ∃ xa : Nat → Nat, SF (l, D, Y, xa) A s s.heap := sorry
