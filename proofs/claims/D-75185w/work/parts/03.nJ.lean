/-! java/util/AbstractCollection -/
set_option maxRecDepth 100000
def RJ0 : String := "java/util/AbstractCollection"
abbrev cJ0_init : ByteArray := prog_44_method_1_code
def yJ0_init : MethodName := ⟨RJ0, "<init>", "()V"⟩
theorem dJ0_init_0 : decode cJ0_init 0 = .ok (.aload_n 0, 1) := sorry
theorem dJ0_init_1 : decode cJ0_init 1 = .ok (.invokespecial 1, 3) := sorry
theorem dJ0_init_4 : decode cJ0_init 4 = .ok (.return_, 1) := sorry
theorem q85 : (Jvm.Cond.initialized "java/util/AbstractCollection") ∈ lw_all := sorry
theorem q141 : (Jvm.Cond.instanceMethod ({ cls := "java/util/AbstractCollection", name := "<init>", desc := "()V" } : Jvm.MethodName)) ∈ lw_all := sorry
theorem q142 : (Jvm.Cond.code ({ cls := "java/util/AbstractCollection", name := "<init>", desc := "()V" } : Jvm.MethodName) prog_44_method_1_code (1 : Nat) (Option.none : Option Jvm.ClassFile.FieldType)) ∈ lw_all := sorry
theorem q143 : (Jvm.Cond.methodLink "java/util/AbstractCollection" (1 : Nat) ({ cls := "java/lang/Object", name := "<init>", desc := "()V" } : Jvm.MethodName)) ∈ lw_all := sorry
/-! java/util/ArrayDeque -/
set_option maxRecDepth 100000
def RJ1 : String := "java/util/ArrayDeque"
def TJ1 : u_T := fun k => match k with
  | 0 => ("java/util/ArrayDeque", "elements", "[Ljava/lang/Object;", false)
  | 1 => ("java/util/ArrayDeque", "head", "I", false)
  | _ => ("java/util/ArrayDeque", "tail", "I", false)
def tyJ1 : Nat → FieldType := fun k => match k with
  | 0 => .array (.object "java/lang/Object")
  | 1 => .int
  | _ => .int
abbrev wsJ10 : List Cond := u_ws RJ1 TJ1 3
theorem nmJ1 : ∀ a, a < 3 → ∀ b, b < 3 → a ≠ b → (TJ1 a).2.1 ≠ (TJ1 b).2.1 := sorry
theorem tyJ1_ok : ∀ k, k < 3 → parseFieldDescriptor (TJ1 k).2.2.1 = some (tyJ1 k) := sorry
abbrev cJ1_init : ByteArray := prog_46_method_3_code
def yJ1_init : MethodName := ⟨RJ1, "<init>", "()V"⟩
def dkwJ1_init_0 : List UInt8 := [42, 183, 0, 42, 42, 16, 17, 189, 0, 47, 181, 0, 3, 177]
abbrev dktJ1_init_0 : List UInt8 := dkwJ1_init_0 ++ []
theorem dksJ1_init_0 : cJ1_init.data.toList.drop 0 = dktJ1_init_0 := sorry
theorem dJ1_init_0 : decode cJ1_init 0 = .ok (.aload_n 0, 1) := sorry
theorem dJ1_init_1 : decode cJ1_init 1 = .ok (.invokespecial 42, 3) := sorry
theorem dJ1_init_4 : decode cJ1_init 4 = .ok (.aload_n 0, 1) := sorry
theorem dJ1_init_5 : decode cJ1_init 5 = .ok (.bipush 17, 2) := sorry
theorem dJ1_init_7 : decode cJ1_init 7 = .ok (.anewarray 47, 3) := sorry
theorem dJ1_init_10 : decode cJ1_init 10 = .ok (.putfield 3, 3) := sorry
theorem dJ1_init_13 : decode cJ1_init 13 = .ok (.return_, 1) := sorry
abbrev cJ1_init_2 : ByteArray := prog_46_method_4_code
def yJ1_init_2 : MethodName := ⟨RJ1, "<init>", "(I)V"⟩
def dkwJ1_init_2_1 : List UInt8 := [167, 0, 6, 27, 4, 96, 189, 0, 47, 181, 0, 3, 177]
abbrev dktJ1_init_2_1 : List UInt8 := dkwJ1_init_2_1 ++ []
def dkwJ1_init_2_0 : List UInt8 := [42, 183, 0, 42, 42, 27, 4, 162, 0, 7, 4, 167, 0, 17, 27, 18, 41, 160, 0, 8, 18, 41]
abbrev dktJ1_init_2_0 : List UInt8 := dkwJ1_init_2_0 ++ dktJ1_init_2_1
theorem dksJ1_init_2_0 : cJ1_init_2.data.toList.drop 0 = dktJ1_init_2_0 := sorry
theorem dksJ1_init_2_1 : cJ1_init_2.data.toList.drop 22 = dktJ1_init_2_1 := sorry
theorem dJ1_init_2_0 : decode cJ1_init_2 0 = .ok (.aload_n 0, 1) := sorry
theorem dJ1_init_2_1 : decode cJ1_init_2 1 = .ok (.invokespecial 42, 3) := sorry
theorem dJ1_init_2_4 : decode cJ1_init_2 4 = .ok (.aload_n 0, 1) := sorry
theorem dJ1_init_2_5 : decode cJ1_init_2 5 = .ok (.iload_n 1, 1) := sorry
theorem dJ1_init_2_6 : decode cJ1_init_2 6 = .ok (.iconst 1, 1) := sorry
theorem dJ1_init_2_7 : decode cJ1_init_2 7 = .ok (.if_icmp .ge 7, 3) := sorry
theorem dJ1_init_2_10 : decode cJ1_init_2 10 = .ok (.iconst 1, 1) := sorry
theorem dJ1_init_2_11 : decode cJ1_init_2 11 = .ok (.goto 17, 3) := sorry
theorem dJ1_init_2_14 : decode cJ1_init_2 14 = .ok (.iload_n 1, 1) := sorry
theorem dJ1_init_2_15 : decode cJ1_init_2 15 = .ok (.ldc 41, 2) := sorry
theorem dJ1_init_2_17 : decode cJ1_init_2 17 = .ok (.if_icmp .ne 8, 3) := sorry
theorem dJ1_init_2_20 : decode cJ1_init_2 20 = .ok (.ldc 41, 2) := sorry
theorem dJ1_init_2_22 : decode cJ1_init_2 22 = .ok (.goto 6, 3) := sorry
theorem dJ1_init_2_25 : decode cJ1_init_2 25 = .ok (.iload_n 1, 1) := sorry
theorem dJ1_init_2_26 : decode cJ1_init_2 26 = .ok (.iconst 1, 1) := sorry
theorem dJ1_init_2_27 : decode cJ1_init_2 27 = .ok (.iadd, 1) := sorry
theorem dJ1_init_2_28 : decode cJ1_init_2 28 = .ok (.anewarray 47, 3) := sorry
theorem dJ1_init_2_31 : decode cJ1_init_2 31 = .ok (.putfield 3, 3) := sorry
theorem dJ1_init_2_34 : decode cJ1_init_2 34 = .ok (.return_, 1) := sorry
abbrev cJ1_size : ByteArray := prog_46_method_37_code
def yJ1_size : MethodName := ⟨RJ1, "size", "()I"⟩
def dkwJ1_size_0 : List UInt8 := [42, 180, 0, 20, 42, 180, 0, 24, 42, 180, 0, 3, 190, 184, 0, 127, 172]
abbrev dktJ1_size_0 : List UInt8 := dkwJ1_size_0 ++ []
theorem dksJ1_size_0 : cJ1_size.data.toList.drop 0 = dktJ1_size_0 := sorry
theorem dJ1_size_0 : decode cJ1_size 0 = .ok (.aload_n 0, 1) := sorry
theorem dJ1_size_1 : decode cJ1_size 1 = .ok (.getfield 20, 3) := sorry
theorem dJ1_size_4 : decode cJ1_size 4 = .ok (.aload_n 0, 1) := sorry
theorem dJ1_size_5 : decode cJ1_size 5 = .ok (.getfield 24, 3) := sorry
theorem dJ1_size_8 : decode cJ1_size 8 = .ok (.aload_n 0, 1) := sorry
theorem dJ1_size_9 : decode cJ1_size 9 = .ok (.getfield 3, 3) := sorry
theorem dJ1_size_12 : decode cJ1_size 12 = .ok (.arraylength, 1) := sorry
theorem dJ1_size_13 : decode cJ1_size 13 = .ok (.invokestatic 127, 3) := sorry
theorem dJ1_size_16 : decode cJ1_size 16 = .ok (.ireturn, 1) := sorry
abbrev cJ1_sub : ByteArray := prog_46_method_9_code
def yJ1_sub : MethodName := ⟨RJ1, "sub", "(III)I"⟩
def dkwJ1_sub_0 : List UInt8 := [26, 27, 100, 89, 59, 156, 0, 7, 26, 28, 96, 59, 26, 172]
abbrev dktJ1_sub_0 : List UInt8 := dkwJ1_sub_0 ++ []
theorem dksJ1_sub_0 : cJ1_sub.data.toList.drop 0 = dktJ1_sub_0 := sorry
theorem dJ1_sub_0 : decode cJ1_sub 0 = .ok (.iload_n 0, 1) := sorry
theorem dJ1_sub_1 : decode cJ1_sub 1 = .ok (.iload_n 1, 1) := sorry
theorem dJ1_sub_2 : decode cJ1_sub 2 = .ok (.isub, 1) := sorry
theorem dJ1_sub_3 : decode cJ1_sub 3 = .ok (.dup, 1) := sorry
theorem dJ1_sub_4 : decode cJ1_sub 4 = .ok (.istore_n 0, 1) := sorry
theorem dJ1_sub_5 : decode cJ1_sub 5 = .ok (.ifCond .ge 7, 3) := sorry
theorem dJ1_sub_8 : decode cJ1_sub 8 = .ok (.iload_n 0, 1) := sorry
theorem dJ1_sub_9 : decode cJ1_sub 9 = .ok (.iload_n 2, 1) := sorry
theorem dJ1_sub_10 : decode cJ1_sub 10 = .ok (.iadd, 1) := sorry
theorem dJ1_sub_11 : decode cJ1_sub 11 = .ok (.istore_n 0, 1) := sorry
theorem dJ1_sub_12 : decode cJ1_sub 12 = .ok (.iload_n 0, 1) := sorry
theorem dJ1_sub_13 : decode cJ1_sub 13 = .ok (.ireturn, 1) := sorry
abbrev cJ1_iterator : ByteArray := prog_46_method_39_code
def yJ1_iterator : MethodName := ⟨RJ1, "iterator", "()Ljava/util/Iterator;"⟩
def dkwJ1_iterator_0 : List UInt8 := [187, 0, 131, 89, 42, 183, 0, 133, 176]
abbrev dktJ1_iterator_0 : List UInt8 := dkwJ1_iterator_0 ++ []
theorem dksJ1_iterator_0 : cJ1_iterator.data.toList.drop 0 = dktJ1_iterator_0 := sorry
theorem dJ1_iterator_0 : decode cJ1_iterator 0 = .ok (.new 131, 3) := sorry
theorem dJ1_iterator_3 : decode cJ1_iterator 3 = .ok (.dup, 1) := sorry
theorem dJ1_iterator_4 : decode cJ1_iterator 4 = .ok (.aload_n 0, 1) := sorry
theorem dJ1_iterator_5 : decode cJ1_iterator 5 = .ok (.invokespecial 133, 3) := sorry
theorem dJ1_iterator_8 : decode cJ1_iterator 8 = .ok (.areturn, 1) := sorry
abbrev cJ1_nonNullElementAt : ByteArray := prog_46_method_11_code
def yJ1_nonNullElementAt : MethodName := ⟨RJ1, "nonNullElementAt", "([Ljava/lang/Object;I)Ljava/lang/Object;"⟩
def dkwJ1_nonNullElementAt_0 : List UInt8 := [42, 27, 50, 77, 44, 199, 0, 11, 187, 0, 62, 89, 183, 0, 64, 191, 44, 176]
abbrev dktJ1_nonNullElementAt_0 : List UInt8 := dkwJ1_nonNullElementAt_0 ++ []
theorem dksJ1_nonNullElementAt_0 : cJ1_nonNullElementAt.data.toList.drop 0 = dktJ1_nonNullElementAt_0 := sorry
theorem dJ1_nonNullElementAt_0 : decode cJ1_nonNullElementAt 0 = .ok (.aload_n 0, 1) := sorry
theorem dJ1_nonNullElementAt_1 : decode cJ1_nonNullElementAt 1 = .ok (.iload_n 1, 1) := sorry
theorem dJ1_nonNullElementAt_2 : decode cJ1_nonNullElementAt 2 = .ok (.aaload, 1) := sorry
theorem dJ1_nonNullElementAt_3 : decode cJ1_nonNullElementAt 3 = .ok (.astore_n 2, 1) := sorry
theorem dJ1_nonNullElementAt_4 : decode cJ1_nonNullElementAt 4 = .ok (.aload_n 2, 1) := sorry
theorem dJ1_nonNullElementAt_5 : decode cJ1_nonNullElementAt 5 = .ok (.ifnonnull 11, 3) := sorry
theorem dJ1_nonNullElementAt_8 : decode cJ1_nonNullElementAt 8 = .ok (.new 62, 3) := sorry
theorem dJ1_nonNullElementAt_11 : decode cJ1_nonNullElementAt 11 = .ok (.dup, 1) := sorry
theorem dJ1_nonNullElementAt_12 : decode cJ1_nonNullElementAt 12 = .ok (.invokespecial 64, 3) := sorry
theorem dJ1_nonNullElementAt_15 : decode cJ1_nonNullElementAt 15 = .ok (.athrow, 1) := sorry
theorem dJ1_nonNullElementAt_16 : decode cJ1_nonNullElementAt 16 = .ok (.aload_n 2, 1) := sorry
theorem dJ1_nonNullElementAt_17 : decode cJ1_nonNullElementAt 17 = .ok (.areturn, 1) := sorry
abbrev cJ1_inc : ByteArray := prog_46_method_6_code
def yJ1_inc : MethodName := ⟨RJ1, "inc", "(II)I"⟩
def dkwJ1_inc_0 : List UInt8 := [132, 0, 1, 26, 27, 161, 0, 5, 3, 59, 26, 172]
abbrev dktJ1_inc_0 : List UInt8 := dkwJ1_inc_0 ++ []
theorem dksJ1_inc_0 : cJ1_inc.data.toList.drop 0 = dktJ1_inc_0 := sorry
theorem dJ1_inc_0 : decode cJ1_inc 0 = .ok (.iinc 0 1, 3) := sorry
theorem dJ1_inc_3 : decode cJ1_inc 3 = .ok (.iload_n 0, 1) := sorry
theorem dJ1_inc_4 : decode cJ1_inc 4 = .ok (.iload_n 1, 1) := sorry
theorem dJ1_inc_5 : decode cJ1_inc 5 = .ok (.if_icmp .lt 5, 3) := sorry
theorem dJ1_inc_8 : decode cJ1_inc 8 = .ok (.iconst 0, 1) := sorry
theorem dJ1_inc_9 : decode cJ1_inc 9 = .ok (.istore_n 0, 1) := sorry
theorem dJ1_inc_10 : decode cJ1_inc 10 = .ok (.iload_n 0, 1) := sorry
theorem dJ1_inc_11 : decode cJ1_inc 11 = .ok (.ireturn, 1) := sorry
abbrev cJ1_isEmpty : ByteArray := prog_46_method_38_code
def yJ1_isEmpty : MethodName := ⟨RJ1, "isEmpty", "()Z"⟩
def dkwJ1_isEmpty_0 : List UInt8 := [42, 180, 0, 24, 42, 180, 0, 20, 160, 0, 7, 4, 167, 0, 4, 3, 172]
abbrev dktJ1_isEmpty_0 : List UInt8 := dkwJ1_isEmpty_0 ++ []
theorem dksJ1_isEmpty_0 : cJ1_isEmpty.data.toList.drop 0 = dktJ1_isEmpty_0 := sorry
theorem dJ1_isEmpty_0 : decode cJ1_isEmpty 0 = .ok (.aload_n 0, 1) := sorry
theorem dJ1_isEmpty_1 : decode cJ1_isEmpty 1 = .ok (.getfield 24, 3) := sorry
theorem dJ1_isEmpty_4 : decode cJ1_isEmpty 4 = .ok (.aload_n 0, 1) := sorry
theorem dJ1_isEmpty_5 : decode cJ1_isEmpty 5 = .ok (.getfield 20, 3) := sorry
theorem dJ1_isEmpty_8 : decode cJ1_isEmpty 8 = .ok (.if_icmp .ne 7, 3) := sorry
theorem dJ1_isEmpty_11 : decode cJ1_isEmpty 11 = .ok (.iconst 1, 1) := sorry
theorem dJ1_isEmpty_12 : decode cJ1_isEmpty 12 = .ok (.goto 4, 3) := sorry
theorem dJ1_isEmpty_15 : decode cJ1_isEmpty 15 = .ok (.iconst 0, 1) := sorry
theorem dJ1_isEmpty_16 : decode cJ1_isEmpty 16 = .ok (.ireturn, 1) := sorry
abbrev cJ1_getFirst : ByteArray := prog_46_method_22_code
def yJ1_getFirst : MethodName := ⟨RJ1, "getFirst", "()Ljava/lang/Object;"⟩
def dkwJ1_getFirst_1 : List UInt8 := [43, 176]
abbrev dktJ1_getFirst_1 : List UInt8 := dkwJ1_getFirst_1 ++ []
def dkwJ1_getFirst_0 : List UInt8 := [42, 180, 0, 3, 42, 180, 0, 24, 184, 0, 103, 76, 43, 199, 0, 11, 187, 0, 97, 89, 183, 0, 99, 191]
abbrev dktJ1_getFirst_0 : List UInt8 := dkwJ1_getFirst_0 ++ dktJ1_getFirst_1
theorem dksJ1_getFirst_0 : cJ1_getFirst.data.toList.drop 0 = dktJ1_getFirst_0 := sorry
theorem dksJ1_getFirst_1 : cJ1_getFirst.data.toList.drop 24 = dktJ1_getFirst_1 := sorry
theorem dJ1_getFirst_0 : decode cJ1_getFirst 0 = .ok (.aload_n 0, 1) := sorry
theorem dJ1_getFirst_1 : decode cJ1_getFirst 1 = .ok (.getfield 3, 3) := sorry
theorem dJ1_getFirst_4 : decode cJ1_getFirst 4 = .ok (.aload_n 0, 1) := sorry
theorem dJ1_getFirst_5 : decode cJ1_getFirst 5 = .ok (.getfield 24, 3) := sorry
theorem dJ1_getFirst_8 : decode cJ1_getFirst 8 = .ok (.invokestatic 103, 3) := sorry
theorem dJ1_getFirst_11 : decode cJ1_getFirst 11 = .ok (.astore_n 1, 1) := sorry
theorem dJ1_getFirst_12 : decode cJ1_getFirst 12 = .ok (.aload_n 1, 1) := sorry
theorem dJ1_getFirst_13 : decode cJ1_getFirst 13 = .ok (.ifnonnull 11, 3) := sorry
theorem dJ1_getFirst_16 : decode cJ1_getFirst 16 = .ok (.new 97, 3) := sorry
theorem dJ1_getFirst_19 : decode cJ1_getFirst 19 = .ok (.dup, 1) := sorry
theorem dJ1_getFirst_20 : decode cJ1_getFirst 20 = .ok (.invokespecial 99, 3) := sorry
theorem dJ1_getFirst_23 : decode cJ1_getFirst 23 = .ok (.athrow, 1) := sorry
theorem dJ1_getFirst_24 : decode cJ1_getFirst 24 = .ok (.aload_n 1, 1) := sorry
theorem dJ1_getFirst_25 : decode cJ1_getFirst 25 = .ok (.areturn, 1) := sorry
abbrev cJ1_elementAt : ByteArray := prog_46_method_10_code
def yJ1_elementAt : MethodName := ⟨RJ1, "elementAt", "([Ljava/lang/Object;I)Ljava/lang/Object;"⟩
def dkwJ1_elementAt_0 : List UInt8 := [42, 27, 50, 176]
abbrev dktJ1_elementAt_0 : List UInt8 := dkwJ1_elementAt_0 ++ []
theorem dksJ1_elementAt_0 : cJ1_elementAt.data.toList.drop 0 = dktJ1_elementAt_0 := sorry
theorem dJ1_elementAt_0 : decode cJ1_elementAt 0 = .ok (.aload_n 0, 1) := sorry
theorem dJ1_elementAt_1 : decode cJ1_elementAt 1 = .ok (.iload_n 1, 1) := sorry
theorem dJ1_elementAt_2 : decode cJ1_elementAt 2 = .ok (.aaload, 1) := sorry
theorem dJ1_elementAt_3 : decode cJ1_elementAt 3 = .ok (.areturn, 1) := sorry
abbrev cJ1_removeLast : ByteArray := prog_46_method_19_code
def yJ1_removeLast : MethodName := ⟨RJ1, "removeLast", "()Ljava/lang/Object;"⟩
def dkwJ1_removeLast_0 : List UInt8 := [42, 182, 0, 100, 76, 43, 199, 0, 11, 187, 0, 97, 89, 183, 0, 99, 191, 43, 176]
abbrev dktJ1_removeLast_0 : List UInt8 := dkwJ1_removeLast_0 ++ []
theorem dksJ1_removeLast_0 : cJ1_removeLast.data.toList.drop 0 = dktJ1_removeLast_0 := sorry
theorem dJ1_removeLast_0 : decode cJ1_removeLast 0 = .ok (.aload_n 0, 1) := sorry
theorem dJ1_removeLast_1 : decode cJ1_removeLast 1 = .ok (.invokevirtual 100, 3) := sorry
theorem dJ1_removeLast_4 : decode cJ1_removeLast 4 = .ok (.astore_n 1, 1) := sorry
theorem dJ1_removeLast_5 : decode cJ1_removeLast 5 = .ok (.aload_n 1, 1) := sorry
theorem dJ1_removeLast_6 : decode cJ1_removeLast 6 = .ok (.ifnonnull 11, 3) := sorry
theorem dJ1_removeLast_9 : decode cJ1_removeLast 9 = .ok (.new 97, 3) := sorry
theorem dJ1_removeLast_12 : decode cJ1_removeLast 12 = .ok (.dup, 1) := sorry
theorem dJ1_removeLast_13 : decode cJ1_removeLast 13 = .ok (.invokespecial 99, 3) := sorry
theorem dJ1_removeLast_16 : decode cJ1_removeLast 16 = .ok (.athrow, 1) := sorry
theorem dJ1_removeLast_17 : decode cJ1_removeLast 17 = .ok (.aload_n 1, 1) := sorry
theorem dJ1_removeLast_18 : decode cJ1_removeLast 18 = .ok (.areturn, 1) := sorry
abbrev cJ1_pollLast : ByteArray := prog_46_method_21_code
def yJ1_pollLast : MethodName := ⟨RJ1, "pollLast", "()Ljava/lang/Object;"⟩
def dkwJ1_pollLast_1 : List UInt8 := [198, 0, 12, 43, 42, 28, 90, 181, 0, 20, 1, 83, 45, 176]
abbrev dktJ1_pollLast_1 : List UInt8 := dkwJ1_pollLast_1 ++ []
def dkwJ1_pollLast_0 : List UInt8 := [42, 180, 0, 3, 89, 76, 42, 180, 0, 20, 43, 190, 184, 0, 68, 89, 61, 184, 0, 103, 78, 45]
abbrev dktJ1_pollLast_0 : List UInt8 := dkwJ1_pollLast_0 ++ dktJ1_pollLast_1
theorem dksJ1_pollLast_0 : cJ1_pollLast.data.toList.drop 0 = dktJ1_pollLast_0 := sorry
theorem dksJ1_pollLast_1 : cJ1_pollLast.data.toList.drop 22 = dktJ1_pollLast_1 := sorry
theorem dJ1_pollLast_0 : decode cJ1_pollLast 0 = .ok (.aload_n 0, 1) := sorry
theorem dJ1_pollLast_1 : decode cJ1_pollLast 1 = .ok (.getfield 3, 3) := sorry
theorem dJ1_pollLast_4 : decode cJ1_pollLast 4 = .ok (.dup, 1) := sorry
theorem dJ1_pollLast_5 : decode cJ1_pollLast 5 = .ok (.astore_n 1, 1) := sorry
theorem dJ1_pollLast_6 : decode cJ1_pollLast 6 = .ok (.aload_n 0, 1) := sorry
theorem dJ1_pollLast_7 : decode cJ1_pollLast 7 = .ok (.getfield 20, 3) := sorry
theorem dJ1_pollLast_10 : decode cJ1_pollLast 10 = .ok (.aload_n 1, 1) := sorry
theorem dJ1_pollLast_11 : decode cJ1_pollLast 11 = .ok (.arraylength, 1) := sorry
theorem dJ1_pollLast_12 : decode cJ1_pollLast 12 = .ok (.invokestatic 68, 3) := sorry
theorem dJ1_pollLast_15 : decode cJ1_pollLast 15 = .ok (.dup, 1) := sorry
theorem dJ1_pollLast_16 : decode cJ1_pollLast 16 = .ok (.istore_n 2, 1) := sorry
theorem dJ1_pollLast_17 : decode cJ1_pollLast 17 = .ok (.invokestatic 103, 3) := sorry
theorem dJ1_pollLast_20 : decode cJ1_pollLast 20 = .ok (.astore_n 3, 1) := sorry
theorem dJ1_pollLast_21 : decode cJ1_pollLast 21 = .ok (.aload_n 3, 1) := sorry
theorem dJ1_pollLast_22 : decode cJ1_pollLast 22 = .ok (.ifnull 12, 3) := sorry
theorem dJ1_pollLast_25 : decode cJ1_pollLast 25 = .ok (.aload_n 1, 1) := sorry
theorem dJ1_pollLast_26 : decode cJ1_pollLast 26 = .ok (.aload_n 0, 1) := sorry
theorem dJ1_pollLast_27 : decode cJ1_pollLast 27 = .ok (.iload_n 2, 1) := sorry
theorem dJ1_pollLast_28 : decode cJ1_pollLast 28 = .ok (.dup_x1, 1) := sorry
theorem dJ1_pollLast_29 : decode cJ1_pollLast 29 = .ok (.putfield 20, 3) := sorry
theorem dJ1_pollLast_32 : decode cJ1_pollLast 32 = .ok (.aconst_null, 1) := sorry
theorem dJ1_pollLast_33 : decode cJ1_pollLast 33 = .ok (.aastore, 1) := sorry
theorem dJ1_pollLast_34 : decode cJ1_pollLast 34 = .ok (.aload_n 3, 1) := sorry
theorem dJ1_pollLast_35 : decode cJ1_pollLast 35 = .ok (.areturn, 1) := sorry
abbrev cJ1_dec : ByteArray := prog_46_method_7_code
def yJ1_dec : MethodName := ⟨RJ1, "dec", "(II)I"⟩
def dkwJ1_dec_0 : List UInt8 := [132, 0, 255, 26, 156, 0, 7, 27, 4, 100, 59, 26, 172]
abbrev dktJ1_dec_0 : List UInt8 := dkwJ1_dec_0 ++ []
theorem dksJ1_dec_0 : cJ1_dec.data.toList.drop 0 = dktJ1_dec_0 := sorry
theorem dJ1_dec_0 : decode cJ1_dec 0 = .ok (.iinc 0 (-1), 3) := sorry
theorem dJ1_dec_3 : decode cJ1_dec 3 = .ok (.iload_n 0, 1) := sorry
theorem dJ1_dec_4 : decode cJ1_dec 4 = .ok (.ifCond .ge 7, 3) := sorry
theorem dJ1_dec_7 : decode cJ1_dec 7 = .ok (.iload_n 1, 1) := sorry
theorem dJ1_dec_8 : decode cJ1_dec 8 = .ok (.iconst 1, 1) := sorry
theorem dJ1_dec_9 : decode cJ1_dec 9 = .ok (.isub, 1) := sorry
theorem dJ1_dec_10 : decode cJ1_dec 10 = .ok (.istore_n 0, 1) := sorry
theorem dJ1_dec_11 : decode cJ1_dec 11 = .ok (.iload_n 0, 1) := sorry
theorem dJ1_dec_12 : decode cJ1_dec 12 = .ok (.ireturn, 1) := sorry
abbrev cJ1_clear : ByteArray := prog_46_method_53_code
def yJ1_clear : MethodName := ⟨RJ1, "clear", "()V"⟩
def dkwJ1_clear_1 : List UInt8 := [181, 0, 24, 177]
abbrev dktJ1_clear_1 : List UInt8 := dkwJ1_clear_1 ++ []
def dkwJ1_clear_0 : List UInt8 := [42, 180, 0, 3, 42, 180, 0, 24, 42, 180, 0, 20, 184, 0, 181, 42, 42, 3, 90, 181, 0, 20]
abbrev dktJ1_clear_0 : List UInt8 := dkwJ1_clear_0 ++ dktJ1_clear_1
theorem dksJ1_clear_0 : cJ1_clear.data.toList.drop 0 = dktJ1_clear_0 := sorry
theorem dksJ1_clear_1 : cJ1_clear.data.toList.drop 22 = dktJ1_clear_1 := sorry
theorem dJ1_clear_0 : decode cJ1_clear 0 = .ok (.aload_n 0, 1) := sorry
theorem dJ1_clear_1 : decode cJ1_clear 1 = .ok (.getfield 3, 3) := sorry
theorem dJ1_clear_4 : decode cJ1_clear 4 = .ok (.aload_n 0, 1) := sorry
theorem dJ1_clear_5 : decode cJ1_clear 5 = .ok (.getfield 24, 3) := sorry
theorem dJ1_clear_8 : decode cJ1_clear 8 = .ok (.aload_n 0, 1) := sorry
theorem dJ1_clear_9 : decode cJ1_clear 9 = .ok (.getfield 20, 3) := sorry
theorem dJ1_clear_12 : decode cJ1_clear 12 = .ok (.invokestatic 181, 3) := sorry
theorem dJ1_clear_15 : decode cJ1_clear 15 = .ok (.aload_n 0, 1) := sorry
theorem dJ1_clear_16 : decode cJ1_clear 16 = .ok (.aload_n 0, 1) := sorry
theorem dJ1_clear_17 : decode cJ1_clear 17 = .ok (.iconst 0, 1) := sorry
theorem dJ1_clear_18 : decode cJ1_clear 18 = .ok (.dup_x1, 1) := sorry
theorem dJ1_clear_19 : decode cJ1_clear 19 = .ok (.putfield 20, 3) := sorry
theorem dJ1_clear_22 : decode cJ1_clear 22 = .ok (.putfield 24, 3) := sorry
theorem dJ1_clear_25 : decode cJ1_clear 25 = .ok (.return_, 1) := sorry
abbrev cJ1_circularClear : ByteArray := prog_46_method_54_code
def yJ1_circularClear : MethodName := ⟨RJ1, "circularClear", "([Ljava/lang/Object;II)V"⟩
def dkwJ1_circularClear_1 : List UInt8 := [167, 255, 244, 29, 28, 160, 0, 6, 167, 0, 10, 3, 60, 28, 62, 167, 255, 229, 177]
abbrev dktJ1_circularClear_1 : List UInt8 := dkwJ1_circularClear_1 ++ []
def dkwJ1_circularClear_0 : List UInt8 := [27, 28, 163, 0, 7, 28, 167, 0, 5, 42, 190, 62, 27, 29, 162, 0, 13, 42, 27, 1, 83, 132, 1, 1]
abbrev dktJ1_circularClear_0 : List UInt8 := dkwJ1_circularClear_0 ++ dktJ1_circularClear_1
theorem dksJ1_circularClear_0 : cJ1_circularClear.data.toList.drop 0 = dktJ1_circularClear_0 := sorry
theorem dksJ1_circularClear_1 : cJ1_circularClear.data.toList.drop 24 = dktJ1_circularClear_1 := sorry
theorem dJ1_circularClear_0 : decode cJ1_circularClear 0 = .ok (.iload_n 1, 1) := sorry
theorem dJ1_circularClear_1 : decode cJ1_circularClear 1 = .ok (.iload_n 2, 1) := sorry
theorem dJ1_circularClear_2 : decode cJ1_circularClear 2 = .ok (.if_icmp .gt 7, 3) := sorry
theorem dJ1_circularClear_5 : decode cJ1_circularClear 5 = .ok (.iload_n 2, 1) := sorry
theorem dJ1_circularClear_6 : decode cJ1_circularClear 6 = .ok (.goto 5, 3) := sorry
theorem dJ1_circularClear_9 : decode cJ1_circularClear 9 = .ok (.aload_n 0, 1) := sorry
theorem dJ1_circularClear_10 : decode cJ1_circularClear 10 = .ok (.arraylength, 1) := sorry
theorem dJ1_circularClear_11 : decode cJ1_circularClear 11 = .ok (.istore_n 3, 1) := sorry
theorem dJ1_circularClear_12 : decode cJ1_circularClear 12 = .ok (.iload_n 1, 1) := sorry
theorem dJ1_circularClear_13 : decode cJ1_circularClear 13 = .ok (.iload_n 3, 1) := sorry
theorem dJ1_circularClear_14 : decode cJ1_circularClear 14 = .ok (.if_icmp .ge 13, 3) := sorry
theorem dJ1_circularClear_17 : decode cJ1_circularClear 17 = .ok (.aload_n 0, 1) := sorry
theorem dJ1_circularClear_18 : decode cJ1_circularClear 18 = .ok (.iload_n 1, 1) := sorry
theorem dJ1_circularClear_19 : decode cJ1_circularClear 19 = .ok (.aconst_null, 1) := sorry
theorem dJ1_circularClear_20 : decode cJ1_circularClear 20 = .ok (.aastore, 1) := sorry
theorem dJ1_circularClear_21 : decode cJ1_circularClear 21 = .ok (.iinc 1 1, 3) := sorry
theorem dJ1_circularClear_24 : decode cJ1_circularClear 24 = .ok (.goto (-12), 3) := sorry
theorem dJ1_circularClear_27 : decode cJ1_circularClear 27 = .ok (.iload_n 3, 1) := sorry
theorem dJ1_circularClear_28 : decode cJ1_circularClear 28 = .ok (.iload_n 2, 1) := sorry
theorem dJ1_circularClear_29 : decode cJ1_circularClear 29 = .ok (.if_icmp .ne 6, 3) := sorry
theorem dJ1_circularClear_32 : decode cJ1_circularClear 32 = .ok (.goto 10, 3) := sorry
theorem dJ1_circularClear_35 : decode cJ1_circularClear 35 = .ok (.iconst 0, 1) := sorry
theorem dJ1_circularClear_36 : decode cJ1_circularClear 36 = .ok (.istore_n 1, 1) := sorry
theorem dJ1_circularClear_37 : decode cJ1_circularClear 37 = .ok (.iload_n 2, 1) := sorry
theorem dJ1_circularClear_38 : decode cJ1_circularClear 38 = .ok (.istore_n 3, 1) := sorry
theorem dJ1_circularClear_39 : decode cJ1_circularClear 39 = .ok (.goto (-27), 3) := sorry
theorem dJ1_circularClear_42 : decode cJ1_circularClear 42 = .ok (.return_, 1) := sorry
abbrev cJ1_removeFirst : ByteArray := prog_46_method_18_code
def yJ1_removeFirst : MethodName := ⟨RJ1, "removeFirst", "()Ljava/lang/Object;"⟩
def dkwJ1_removeFirst_0 : List UInt8 := [42, 182, 0, 93, 76, 43, 199, 0, 11, 187, 0, 97, 89, 183, 0, 99, 191, 43, 176]
abbrev dktJ1_removeFirst_0 : List UInt8 := dkwJ1_removeFirst_0 ++ []
theorem dksJ1_removeFirst_0 : cJ1_removeFirst.data.toList.drop 0 = dktJ1_removeFirst_0 := sorry
theorem dJ1_removeFirst_0 : decode cJ1_removeFirst 0 = .ok (.aload_n 0, 1) := sorry
theorem dJ1_removeFirst_1 : decode cJ1_removeFirst 1 = .ok (.invokevirtual 93, 3) := sorry
theorem dJ1_removeFirst_4 : decode cJ1_removeFirst 4 = .ok (.astore_n 1, 1) := sorry
theorem dJ1_removeFirst_5 : decode cJ1_removeFirst 5 = .ok (.aload_n 1, 1) := sorry
theorem dJ1_removeFirst_6 : decode cJ1_removeFirst 6 = .ok (.ifnonnull 11, 3) := sorry
theorem dJ1_removeFirst_9 : decode cJ1_removeFirst 9 = .ok (.new 97, 3) := sorry
theorem dJ1_removeFirst_12 : decode cJ1_removeFirst 12 = .ok (.dup, 1) := sorry
theorem dJ1_removeFirst_13 : decode cJ1_removeFirst 13 = .ok (.invokespecial 99, 3) := sorry
theorem dJ1_removeFirst_16 : decode cJ1_removeFirst 16 = .ok (.athrow, 1) := sorry
theorem dJ1_removeFirst_17 : decode cJ1_removeFirst 17 = .ok (.aload_n 1, 1) := sorry
theorem dJ1_removeFirst_18 : decode cJ1_removeFirst 18 = .ok (.areturn, 1) := sorry
abbrev cJ1_pollFirst : ByteArray := prog_46_method_20_code
def yJ1_pollFirst : MethodName := ⟨RJ1, "pollFirst", "()Ljava/lang/Object;"⟩
def dkwJ1_pollFirst_1 : List UInt8 := [42, 28, 43, 190, 184, 0, 74, 181, 0, 24, 45, 176]
abbrev dktJ1_pollFirst_1 : List UInt8 := dkwJ1_pollFirst_1 ++ []
def dkwJ1_pollFirst_0 : List UInt8 := [42, 180, 0, 3, 89, 76, 42, 180, 0, 24, 89, 61, 184, 0, 103, 78, 45, 198, 0, 17, 43, 28, 1, 83]
abbrev dktJ1_pollFirst_0 : List UInt8 := dkwJ1_pollFirst_0 ++ dktJ1_pollFirst_1
theorem dksJ1_pollFirst_0 : cJ1_pollFirst.data.toList.drop 0 = dktJ1_pollFirst_0 := sorry
theorem dksJ1_pollFirst_1 : cJ1_pollFirst.data.toList.drop 24 = dktJ1_pollFirst_1 := sorry
theorem dJ1_pollFirst_0 : decode cJ1_pollFirst 0 = .ok (.aload_n 0, 1) := sorry
theorem dJ1_pollFirst_1 : decode cJ1_pollFirst 1 = .ok (.getfield 3, 3) := sorry
theorem dJ1_pollFirst_4 : decode cJ1_pollFirst 4 = .ok (.dup, 1) := sorry
theorem dJ1_pollFirst_5 : decode cJ1_pollFirst 5 = .ok (.astore_n 1, 1) := sorry
theorem dJ1_pollFirst_6 : decode cJ1_pollFirst 6 = .ok (.aload_n 0, 1) := sorry
theorem dJ1_pollFirst_7 : decode cJ1_pollFirst 7 = .ok (.getfield 24, 3) := sorry
theorem dJ1_pollFirst_10 : decode cJ1_pollFirst 10 = .ok (.dup, 1) := sorry
theorem dJ1_pollFirst_11 : decode cJ1_pollFirst 11 = .ok (.istore_n 2, 1) := sorry
theorem dJ1_pollFirst_12 : decode cJ1_pollFirst 12 = .ok (.invokestatic 103, 3) := sorry
theorem dJ1_pollFirst_15 : decode cJ1_pollFirst 15 = .ok (.astore_n 3, 1) := sorry
theorem dJ1_pollFirst_16 : decode cJ1_pollFirst 16 = .ok (.aload_n 3, 1) := sorry
theorem dJ1_pollFirst_17 : decode cJ1_pollFirst 17 = .ok (.ifnull 17, 3) := sorry
theorem dJ1_pollFirst_20 : decode cJ1_pollFirst 20 = .ok (.aload_n 1, 1) := sorry
theorem dJ1_pollFirst_21 : decode cJ1_pollFirst 21 = .ok (.iload_n 2, 1) := sorry
theorem dJ1_pollFirst_22 : decode cJ1_pollFirst 22 = .ok (.aconst_null, 1) := sorry
theorem dJ1_pollFirst_23 : decode cJ1_pollFirst 23 = .ok (.aastore, 1) := sorry
theorem dJ1_pollFirst_24 : decode cJ1_pollFirst 24 = .ok (.aload_n 0, 1) := sorry
theorem dJ1_pollFirst_25 : decode cJ1_pollFirst 25 = .ok (.iload_n 2, 1) := sorry
theorem dJ1_pollFirst_26 : decode cJ1_pollFirst 26 = .ok (.aload_n 1, 1) := sorry
theorem dJ1_pollFirst_27 : decode cJ1_pollFirst 27 = .ok (.arraylength, 1) := sorry
theorem dJ1_pollFirst_28 : decode cJ1_pollFirst 28 = .ok (.invokestatic 74, 3) := sorry
theorem dJ1_pollFirst_31 : decode cJ1_pollFirst 31 = .ok (.putfield 24, 3) := sorry
theorem dJ1_pollFirst_34 : decode cJ1_pollFirst 34 = .ok (.aload_n 3, 1) := sorry
theorem dJ1_pollFirst_35 : decode cJ1_pollFirst 35 = .ok (.areturn, 1) := sorry
abbrev cJ1_addLast : ByteArray := prog_46_method_13_code
def yJ1_addLast : MethodName := ⟨RJ1, "addLast", "(Ljava/lang/Object;)V"⟩
def dkwJ1_addLast_2 : List UInt8 := [182, 0, 71, 177]
abbrev dktJ1_addLast_2 : List UInt8 := dkwJ1_addLast_2 ++ []
def dkwJ1_addLast_1 : List UInt8 := [42, 180, 0, 24, 42, 42, 180, 0, 20, 44, 190, 184, 0, 74, 90, 181, 0, 20, 160, 0, 8, 42, 4]
abbrev dktJ1_addLast_1 : List UInt8 := dkwJ1_addLast_1 ++ dktJ1_addLast_2
def dkwJ1_addLast_0 : List UInt8 := [43, 199, 0, 11, 187, 0, 65, 89, 183, 0, 67, 191, 42, 180, 0, 3, 77, 44, 42, 180, 0, 20, 43, 83]
abbrev dktJ1_addLast_0 : List UInt8 := dkwJ1_addLast_0 ++ dktJ1_addLast_1
theorem dksJ1_addLast_0 : cJ1_addLast.data.toList.drop 0 = dktJ1_addLast_0 := sorry
theorem dksJ1_addLast_1 : cJ1_addLast.data.toList.drop 24 = dktJ1_addLast_1 := sorry
theorem dksJ1_addLast_2 : cJ1_addLast.data.toList.drop 47 = dktJ1_addLast_2 := sorry
theorem dJ1_addLast_0 : decode cJ1_addLast 0 = .ok (.aload_n 1, 1) := sorry
theorem dJ1_addLast_1 : decode cJ1_addLast 1 = .ok (.ifnonnull 11, 3) := sorry
theorem dJ1_addLast_4 : decode cJ1_addLast 4 = .ok (.new 65, 3) := sorry
theorem dJ1_addLast_7 : decode cJ1_addLast 7 = .ok (.dup, 1) := sorry
theorem dJ1_addLast_8 : decode cJ1_addLast 8 = .ok (.invokespecial 67, 3) := sorry
theorem dJ1_addLast_11 : decode cJ1_addLast 11 = .ok (.athrow, 1) := sorry
theorem dJ1_addLast_12 : decode cJ1_addLast 12 = .ok (.aload_n 0, 1) := sorry
theorem dJ1_addLast_13 : decode cJ1_addLast 13 = .ok (.getfield 3, 3) := sorry
theorem dJ1_addLast_16 : decode cJ1_addLast 16 = .ok (.astore_n 2, 1) := sorry
theorem dJ1_addLast_17 : decode cJ1_addLast 17 = .ok (.aload_n 2, 1) := sorry
theorem dJ1_addLast_18 : decode cJ1_addLast 18 = .ok (.aload_n 0, 1) := sorry
theorem dJ1_addLast_19 : decode cJ1_addLast 19 = .ok (.getfield 20, 3) := sorry
theorem dJ1_addLast_22 : decode cJ1_addLast 22 = .ok (.aload_n 1, 1) := sorry
theorem dJ1_addLast_23 : decode cJ1_addLast 23 = .ok (.aastore, 1) := sorry
theorem dJ1_addLast_24 : decode cJ1_addLast 24 = .ok (.aload_n 0, 1) := sorry
theorem dJ1_addLast_25 : decode cJ1_addLast 25 = .ok (.getfield 24, 3) := sorry
theorem dJ1_addLast_28 : decode cJ1_addLast 28 = .ok (.aload_n 0, 1) := sorry
theorem dJ1_addLast_29 : decode cJ1_addLast 29 = .ok (.aload_n 0, 1) := sorry
theorem dJ1_addLast_30 : decode cJ1_addLast 30 = .ok (.getfield 20, 3) := sorry
theorem dJ1_addLast_33 : decode cJ1_addLast 33 = .ok (.aload_n 2, 1) := sorry
theorem dJ1_addLast_34 : decode cJ1_addLast 34 = .ok (.arraylength, 1) := sorry
theorem dJ1_addLast_35 : decode cJ1_addLast 35 = .ok (.invokestatic 74, 3) := sorry
theorem dJ1_addLast_38 : decode cJ1_addLast 38 = .ok (.dup_x1, 1) := sorry
theorem dJ1_addLast_39 : decode cJ1_addLast 39 = .ok (.putfield 20, 3) := sorry
theorem dJ1_addLast_42 : decode cJ1_addLast 42 = .ok (.if_icmp .ne 8, 3) := sorry
theorem dJ1_addLast_45 : decode cJ1_addLast 45 = .ok (.aload_n 0, 1) := sorry
theorem dJ1_addLast_46 : decode cJ1_addLast 46 = .ok (.iconst 1, 1) := sorry
theorem dJ1_addLast_47 : decode cJ1_addLast 47 = .ok (.invokevirtual 71, 3) := sorry
theorem dJ1_addLast_50 : decode cJ1_addLast 50 = .ok (.return_, 1) := sorry
abbrev cJ1_grow : ByteArray := prog_46_method_1_code
def yJ1_grow : MethodName := ⟨RJ1, "grow", "(I)V"⟩
def dkwJ1_grow_7 : List UInt8 := [177]
abbrev dktJ1_grow_7 : List UInt8 := dkwJ1_grow_7 ++ []
def dkwJ1_grow_6 : List UInt8 := [181, 0, 24, 54, 8, 21, 7, 21, 8, 162, 0, 15, 25, 5, 21, 7, 1, 83, 132, 7, 1, 167, 255, 240]
abbrev dktJ1_grow_6 : List UInt8 := dkwJ1_grow_6 ++ dktJ1_grow_7
def dkwJ1_grow_5 : List UInt8 := [42, 180, 0, 24, 100, 184, 0, 27, 42, 180, 0, 24, 54, 7, 42, 89, 180, 0, 24, 21, 6, 96, 90]
abbrev dktJ1_grow_5 : List UInt8 := dkwJ1_grow_5 ++ dktJ1_grow_6
def dkwJ1_grow_4 : List UInt8 := [198, 0, 71, 29, 28, 100, 54, 6, 25, 5, 42, 180, 0, 24, 25, 5, 42, 180, 0, 24, 21, 6, 96, 28]
abbrev dktJ1_grow_4 : List UInt8 := dkwJ1_grow_4 ++ dktJ1_grow_5
def dkwJ1_grow_3 : List UInt8 := [180, 0, 24, 161, 0, 24, 42, 180, 0, 20, 42, 180, 0, 24, 160, 0, 81, 25, 5, 42, 180, 0, 24, 50]
abbrev dktJ1_grow_3 : List UInt8 := dkwJ1_grow_3 ++ dktJ1_grow_4
def dkwJ1_grow_2 : List UInt8 := [182, 0, 10, 62, 42, 42, 180, 0, 3, 29, 184, 0, 14, 90, 181, 0, 3, 58, 5, 42, 180, 0, 20, 42]
abbrev dktJ1_grow_2 : List UInt8 := dkwJ1_grow_2 ++ dktJ1_grow_3
def dkwJ1_grow_1 : List UInt8 := [21, 4, 27, 161, 0, 15, 28, 21, 4, 96, 89, 62, 18, 9, 100, 158, 0, 11, 42, 27, 21, 4]
abbrev dktJ1_grow_1 : List UInt8 := dkwJ1_grow_1 ++ dktJ1_grow_2
def dkwJ1_grow_0 : List UInt8 := [42, 180, 0, 3, 190, 61, 28, 16, 64, 162, 0, 9, 28, 5, 96, 167, 0, 6, 28, 4, 122, 54, 4]
abbrev dktJ1_grow_0 : List UInt8 := dkwJ1_grow_0 ++ dktJ1_grow_1
theorem dksJ1_grow_0 : cJ1_grow.data.toList.drop 0 = dktJ1_grow_0 := sorry
theorem dksJ1_grow_1 : cJ1_grow.data.toList.drop 23 = dktJ1_grow_1 := sorry
theorem dksJ1_grow_2 : cJ1_grow.data.toList.drop 45 = dktJ1_grow_2 := sorry
theorem dksJ1_grow_3 : cJ1_grow.data.toList.drop 69 = dktJ1_grow_3 := sorry
theorem dksJ1_grow_4 : cJ1_grow.data.toList.drop 93 = dktJ1_grow_4 := sorry
theorem dksJ1_grow_5 : cJ1_grow.data.toList.drop 117 = dktJ1_grow_5 := sorry
theorem dksJ1_grow_6 : cJ1_grow.data.toList.drop 140 = dktJ1_grow_6 := sorry
theorem dksJ1_grow_7 : cJ1_grow.data.toList.drop 164 = dktJ1_grow_7 := sorry
theorem dJ1_grow_0 : decode cJ1_grow 0 = .ok (.aload_n 0, 1) := sorry
theorem dJ1_grow_1 : decode cJ1_grow 1 = .ok (.getfield 3, 3) := sorry
theorem dJ1_grow_4 : decode cJ1_grow 4 = .ok (.arraylength, 1) := sorry
theorem dJ1_grow_5 : decode cJ1_grow 5 = .ok (.istore_n 2, 1) := sorry
theorem dJ1_grow_6 : decode cJ1_grow 6 = .ok (.iload_n 2, 1) := sorry
theorem dJ1_grow_7 : decode cJ1_grow 7 = .ok (.bipush 64, 2) := sorry
theorem dJ1_grow_9 : decode cJ1_grow 9 = .ok (.if_icmp .ge 9, 3) := sorry
theorem dJ1_grow_12 : decode cJ1_grow 12 = .ok (.iload_n 2, 1) := sorry
theorem dJ1_grow_13 : decode cJ1_grow 13 = .ok (.iconst 2, 1) := sorry
theorem dJ1_grow_14 : decode cJ1_grow 14 = .ok (.iadd, 1) := sorry
theorem dJ1_grow_15 : decode cJ1_grow 15 = .ok (.goto 6, 3) := sorry
theorem dJ1_grow_18 : decode cJ1_grow 18 = .ok (.iload_n 2, 1) := sorry
theorem dJ1_grow_19 : decode cJ1_grow 19 = .ok (.iconst 1, 1) := sorry
theorem dJ1_grow_20 : decode cJ1_grow 20 = .ok (.ishr, 1) := sorry
theorem dJ1_grow_21 : decode cJ1_grow 21 = .ok (.istore 4, 2) := sorry
theorem dJ1_grow_23 : decode cJ1_grow 23 = .ok (.iload 4, 2) := sorry
theorem dJ1_grow_25 : decode cJ1_grow 25 = .ok (.iload_n 1, 1) := sorry
theorem dJ1_grow_26 : decode cJ1_grow 26 = .ok (.if_icmp .lt 15, 3) := sorry
theorem dJ1_grow_29 : decode cJ1_grow 29 = .ok (.iload_n 2, 1) := sorry
theorem dJ1_grow_30 : decode cJ1_grow 30 = .ok (.iload 4, 2) := sorry
theorem dJ1_grow_32 : decode cJ1_grow 32 = .ok (.iadd, 1) := sorry
theorem dJ1_grow_33 : decode cJ1_grow 33 = .ok (.dup, 1) := sorry
theorem dJ1_grow_34 : decode cJ1_grow 34 = .ok (.istore_n 3, 1) := sorry
theorem dJ1_grow_35 : decode cJ1_grow 35 = .ok (.ldc 9, 2) := sorry
theorem dJ1_grow_37 : decode cJ1_grow 37 = .ok (.isub, 1) := sorry
theorem dJ1_grow_38 : decode cJ1_grow 38 = .ok (.ifCond .le 11, 3) := sorry
theorem dJ1_grow_41 : decode cJ1_grow 41 = .ok (.aload_n 0, 1) := sorry
theorem dJ1_grow_42 : decode cJ1_grow 42 = .ok (.iload_n 1, 1) := sorry
theorem dJ1_grow_43 : decode cJ1_grow 43 = .ok (.iload 4, 2) := sorry
theorem dJ1_grow_45 : decode cJ1_grow 45 = .ok (.invokevirtual 10, 3) := sorry
theorem dJ1_grow_48 : decode cJ1_grow 48 = .ok (.istore_n 3, 1) := sorry
theorem dJ1_grow_49 : decode cJ1_grow 49 = .ok (.aload_n 0, 1) := sorry
theorem dJ1_grow_50 : decode cJ1_grow 50 = .ok (.aload_n 0, 1) := sorry
theorem dJ1_grow_51 : decode cJ1_grow 51 = .ok (.getfield 3, 3) := sorry
theorem dJ1_grow_54 : decode cJ1_grow 54 = .ok (.iload_n 3, 1) := sorry
theorem dJ1_grow_55 : decode cJ1_grow 55 = .ok (.invokestatic 14, 3) := sorry
theorem dJ1_grow_58 : decode cJ1_grow 58 = .ok (.dup_x1, 1) := sorry
theorem dJ1_grow_59 : decode cJ1_grow 59 = .ok (.putfield 3, 3) := sorry
theorem dJ1_grow_62 : decode cJ1_grow 62 = .ok (.astore 5, 2) := sorry
theorem dJ1_grow_64 : decode cJ1_grow 64 = .ok (.aload_n 0, 1) := sorry
theorem dJ1_grow_65 : decode cJ1_grow 65 = .ok (.getfield 20, 3) := sorry
theorem dJ1_grow_68 : decode cJ1_grow 68 = .ok (.aload_n 0, 1) := sorry
theorem dJ1_grow_69 : decode cJ1_grow 69 = .ok (.getfield 24, 3) := sorry
theorem dJ1_grow_72 : decode cJ1_grow 72 = .ok (.if_icmp .lt 24, 3) := sorry
theorem dJ1_grow_75 : decode cJ1_grow 75 = .ok (.aload_n 0, 1) := sorry
theorem dJ1_grow_76 : decode cJ1_grow 76 = .ok (.getfield 20, 3) := sorry
theorem dJ1_grow_79 : decode cJ1_grow 79 = .ok (.aload_n 0, 1) := sorry
theorem dJ1_grow_80 : decode cJ1_grow 80 = .ok (.getfield 24, 3) := sorry
theorem dJ1_grow_83 : decode cJ1_grow 83 = .ok (.if_icmp .ne 81, 3) := sorry
theorem dJ1_grow_86 : decode cJ1_grow 86 = .ok (.aload 5, 2) := sorry
theorem dJ1_grow_88 : decode cJ1_grow 88 = .ok (.aload_n 0, 1) := sorry
theorem dJ1_grow_89 : decode cJ1_grow 89 = .ok (.getfield 24, 3) := sorry
theorem dJ1_grow_92 : decode cJ1_grow 92 = .ok (.aaload, 1) := sorry
theorem dJ1_grow_93 : decode cJ1_grow 93 = .ok (.ifnull 71, 3) := sorry
theorem dJ1_grow_96 : decode cJ1_grow 96 = .ok (.iload_n 3, 1) := sorry
theorem dJ1_grow_97 : decode cJ1_grow 97 = .ok (.iload_n 2, 1) := sorry
theorem dJ1_grow_98 : decode cJ1_grow 98 = .ok (.isub, 1) := sorry
theorem dJ1_grow_99 : decode cJ1_grow 99 = .ok (.istore 6, 2) := sorry
theorem dJ1_grow_101 : decode cJ1_grow 101 = .ok (.aload 5, 2) := sorry
theorem dJ1_grow_103 : decode cJ1_grow 103 = .ok (.aload_n 0, 1) := sorry
theorem dJ1_grow_104 : decode cJ1_grow 104 = .ok (.getfield 24, 3) := sorry
theorem dJ1_grow_107 : decode cJ1_grow 107 = .ok (.aload 5, 2) := sorry
theorem dJ1_grow_109 : decode cJ1_grow 109 = .ok (.aload_n 0, 1) := sorry
theorem dJ1_grow_110 : decode cJ1_grow 110 = .ok (.getfield 24, 3) := sorry
theorem dJ1_grow_113 : decode cJ1_grow 113 = .ok (.iload 6, 2) := sorry
theorem dJ1_grow_115 : decode cJ1_grow 115 = .ok (.iadd, 1) := sorry
theorem dJ1_grow_116 : decode cJ1_grow 116 = .ok (.iload_n 2, 1) := sorry
theorem dJ1_grow_117 : decode cJ1_grow 117 = .ok (.aload_n 0, 1) := sorry
theorem dJ1_grow_118 : decode cJ1_grow 118 = .ok (.getfield 24, 3) := sorry
theorem dJ1_grow_121 : decode cJ1_grow 121 = .ok (.isub, 1) := sorry
theorem dJ1_grow_122 : decode cJ1_grow 122 = .ok (.invokestatic 27, 3) := sorry
theorem dJ1_grow_125 : decode cJ1_grow 125 = .ok (.aload_n 0, 1) := sorry
theorem dJ1_grow_126 : decode cJ1_grow 126 = .ok (.getfield 24, 3) := sorry
theorem dJ1_grow_129 : decode cJ1_grow 129 = .ok (.istore 7, 2) := sorry
theorem dJ1_grow_131 : decode cJ1_grow 131 = .ok (.aload_n 0, 1) := sorry
theorem dJ1_grow_132 : decode cJ1_grow 132 = .ok (.dup, 1) := sorry
theorem dJ1_grow_133 : decode cJ1_grow 133 = .ok (.getfield 24, 3) := sorry
theorem dJ1_grow_136 : decode cJ1_grow 136 = .ok (.iload 6, 2) := sorry
theorem dJ1_grow_138 : decode cJ1_grow 138 = .ok (.iadd, 1) := sorry
theorem dJ1_grow_139 : decode cJ1_grow 139 = .ok (.dup_x1, 1) := sorry
theorem dJ1_grow_140 : decode cJ1_grow 140 = .ok (.putfield 24, 3) := sorry
theorem dJ1_grow_143 : decode cJ1_grow 143 = .ok (.istore 8, 2) := sorry
theorem dJ1_grow_145 : decode cJ1_grow 145 = .ok (.iload 7, 2) := sorry
theorem dJ1_grow_147 : decode cJ1_grow 147 = .ok (.iload 8, 2) := sorry
theorem dJ1_grow_149 : decode cJ1_grow 149 = .ok (.if_icmp .ge 15, 3) := sorry
theorem dJ1_grow_152 : decode cJ1_grow 152 = .ok (.aload 5, 2) := sorry
theorem dJ1_grow_154 : decode cJ1_grow 154 = .ok (.iload 7, 2) := sorry
theorem dJ1_grow_156 : decode cJ1_grow 156 = .ok (.aconst_null, 1) := sorry
theorem dJ1_grow_157 : decode cJ1_grow 157 = .ok (.aastore, 1) := sorry
theorem dJ1_grow_158 : decode cJ1_grow 158 = .ok (.iinc 7 1, 3) := sorry
theorem dJ1_grow_161 : decode cJ1_grow 161 = .ok (.goto (-16), 3) := sorry
theorem dJ1_grow_164 : decode cJ1_grow 164 = .ok (.return_, 1) := sorry
abbrev cJ1_newCapacity : ByteArray := prog_46_method_2_code
def yJ1_newCapacity : MethodName := ⟨RJ1, "newCapacity", "(II)I"⟩
def dkwJ1_newCapacity_2 : List UInt8 := [18, 9, 100, 156, 0, 9, 29, 28, 96, 167, 0, 5, 18, 9, 172]
abbrev dktJ1_newCapacity_2 : List UInt8 := dkwJ1_newCapacity_2 ++ []
def dkwJ1_newCapacity_1 : List UInt8 := [187, 0, 33, 89, 18, 35, 183, 0, 37, 191, 18, 41, 172, 27, 28, 164, 0, 6, 21, 4, 172, 29, 28, 96]
abbrev dktJ1_newCapacity_1 : List UInt8 := dkwJ1_newCapacity_1 ++ dktJ1_newCapacity_2
def dkwJ1_newCapacity_0 : List UInt8 := [42, 180, 0, 3, 190, 62, 29, 27, 96, 89, 54, 4, 18, 9, 100, 158, 0, 21, 21, 4, 156, 0, 13]
abbrev dktJ1_newCapacity_0 : List UInt8 := dkwJ1_newCapacity_0 ++ dktJ1_newCapacity_1
theorem dksJ1_newCapacity_0 : cJ1_newCapacity.data.toList.drop 0 = dktJ1_newCapacity_0 := sorry
theorem dksJ1_newCapacity_1 : cJ1_newCapacity.data.toList.drop 23 = dktJ1_newCapacity_1 := sorry
theorem dksJ1_newCapacity_2 : cJ1_newCapacity.data.toList.drop 47 = dktJ1_newCapacity_2 := sorry
theorem dJ1_newCapacity_0 : decode cJ1_newCapacity 0 = .ok (.aload_n 0, 1) := sorry
theorem dJ1_newCapacity_1 : decode cJ1_newCapacity 1 = .ok (.getfield 3, 3) := sorry
theorem dJ1_newCapacity_4 : decode cJ1_newCapacity 4 = .ok (.arraylength, 1) := sorry
theorem dJ1_newCapacity_5 : decode cJ1_newCapacity 5 = .ok (.istore_n 3, 1) := sorry
theorem dJ1_newCapacity_6 : decode cJ1_newCapacity 6 = .ok (.iload_n 3, 1) := sorry
theorem dJ1_newCapacity_7 : decode cJ1_newCapacity 7 = .ok (.iload_n 1, 1) := sorry
theorem dJ1_newCapacity_8 : decode cJ1_newCapacity 8 = .ok (.iadd, 1) := sorry
theorem dJ1_newCapacity_9 : decode cJ1_newCapacity 9 = .ok (.dup, 1) := sorry
theorem dJ1_newCapacity_10 : decode cJ1_newCapacity 10 = .ok (.istore 4, 2) := sorry
theorem dJ1_newCapacity_12 : decode cJ1_newCapacity 12 = .ok (.ldc 9, 2) := sorry
theorem dJ1_newCapacity_14 : decode cJ1_newCapacity 14 = .ok (.isub, 1) := sorry
theorem dJ1_newCapacity_15 : decode cJ1_newCapacity 15 = .ok (.ifCond .le 21, 3) := sorry
theorem dJ1_newCapacity_18 : decode cJ1_newCapacity 18 = .ok (.iload 4, 2) := sorry
theorem dJ1_newCapacity_20 : decode cJ1_newCapacity 20 = .ok (.ifCond .ge 13, 3) := sorry
theorem dJ1_newCapacity_23 : decode cJ1_newCapacity 23 = .ok (.new 33, 3) := sorry
theorem dJ1_newCapacity_26 : decode cJ1_newCapacity 26 = .ok (.dup, 1) := sorry
theorem dJ1_newCapacity_27 : decode cJ1_newCapacity 27 = .ok (.ldc 35, 2) := sorry
theorem dJ1_newCapacity_29 : decode cJ1_newCapacity 29 = .ok (.invokespecial 37, 3) := sorry
theorem dJ1_newCapacity_32 : decode cJ1_newCapacity 32 = .ok (.athrow, 1) := sorry
theorem dJ1_newCapacity_33 : decode cJ1_newCapacity 33 = .ok (.ldc 41, 2) := sorry
theorem dJ1_newCapacity_35 : decode cJ1_newCapacity 35 = .ok (.ireturn, 1) := sorry
theorem dJ1_newCapacity_36 : decode cJ1_newCapacity 36 = .ok (.iload_n 1, 1) := sorry
theorem dJ1_newCapacity_37 : decode cJ1_newCapacity 37 = .ok (.iload_n 2, 1) := sorry
theorem dJ1_newCapacity_38 : decode cJ1_newCapacity 38 = .ok (.if_icmp .le 6, 3) := sorry
theorem dJ1_newCapacity_41 : decode cJ1_newCapacity 41 = .ok (.iload 4, 2) := sorry
theorem dJ1_newCapacity_43 : decode cJ1_newCapacity 43 = .ok (.ireturn, 1) := sorry
theorem dJ1_newCapacity_44 : decode cJ1_newCapacity 44 = .ok (.iload_n 3, 1) := sorry
theorem dJ1_newCapacity_45 : decode cJ1_newCapacity 45 = .ok (.iload_n 2, 1) := sorry
theorem dJ1_newCapacity_46 : decode cJ1_newCapacity 46 = .ok (.iadd, 1) := sorry
theorem dJ1_newCapacity_47 : decode cJ1_newCapacity 47 = .ok (.ldc 9, 2) := sorry
theorem dJ1_newCapacity_49 : decode cJ1_newCapacity 49 = .ok (.isub, 1) := sorry
theorem dJ1_newCapacity_50 : decode cJ1_newCapacity 50 = .ok (.ifCond .ge 9, 3) := sorry
theorem dJ1_newCapacity_53 : decode cJ1_newCapacity 53 = .ok (.iload_n 3, 1) := sorry
theorem dJ1_newCapacity_54 : decode cJ1_newCapacity 54 = .ok (.iload_n 2, 1) := sorry
theorem dJ1_newCapacity_55 : decode cJ1_newCapacity 55 = .ok (.iadd, 1) := sorry
theorem dJ1_newCapacity_56 : decode cJ1_newCapacity 56 = .ok (.goto 5, 3) := sorry
theorem dJ1_newCapacity_59 : decode cJ1_newCapacity 59 = .ok (.ldc 9, 2) := sorry
theorem dJ1_newCapacity_61 : decode cJ1_newCapacity 61 = .ok (.ireturn, 1) := sorry
abbrev cJ1_addFirst : ByteArray := prog_46_method_12_code
def yJ1_addFirst : MethodName := ⟨RJ1, "addFirst", "(Ljava/lang/Object;)V"⟩
def dkwJ1_addFirst_2 : List UInt8 := [182, 0, 71, 177]
abbrev dktJ1_addFirst_2 : List UInt8 := dkwJ1_addFirst_2 ++ []
def dkwJ1_addFirst_1 : List UInt8 := [190, 184, 0, 68, 90, 181, 0, 24, 43, 83, 42, 180, 0, 24, 42, 180, 0, 20, 160, 0, 8, 42, 4]
abbrev dktJ1_addFirst_1 : List UInt8 := dkwJ1_addFirst_1 ++ dktJ1_addFirst_2
def dkwJ1_addFirst_0 : List UInt8 := [43, 199, 0, 11, 187, 0, 65, 89, 183, 0, 67, 191, 42, 180, 0, 3, 77, 44, 42, 42, 180, 0, 24, 44]
abbrev dktJ1_addFirst_0 : List UInt8 := dkwJ1_addFirst_0 ++ dktJ1_addFirst_1
theorem dksJ1_addFirst_0 : cJ1_addFirst.data.toList.drop 0 = dktJ1_addFirst_0 := sorry
theorem dksJ1_addFirst_1 : cJ1_addFirst.data.toList.drop 24 = dktJ1_addFirst_1 := sorry
theorem dksJ1_addFirst_2 : cJ1_addFirst.data.toList.drop 47 = dktJ1_addFirst_2 := sorry
theorem dJ1_addFirst_0 : decode cJ1_addFirst 0 = .ok (.aload_n 1, 1) := sorry
theorem dJ1_addFirst_1 : decode cJ1_addFirst 1 = .ok (.ifnonnull 11, 3) := sorry
theorem dJ1_addFirst_4 : decode cJ1_addFirst 4 = .ok (.new 65, 3) := sorry
theorem dJ1_addFirst_7 : decode cJ1_addFirst 7 = .ok (.dup, 1) := sorry
theorem dJ1_addFirst_8 : decode cJ1_addFirst 8 = .ok (.invokespecial 67, 3) := sorry
theorem dJ1_addFirst_11 : decode cJ1_addFirst 11 = .ok (.athrow, 1) := sorry
theorem dJ1_addFirst_12 : decode cJ1_addFirst 12 = .ok (.aload_n 0, 1) := sorry
theorem dJ1_addFirst_13 : decode cJ1_addFirst 13 = .ok (.getfield 3, 3) := sorry
theorem dJ1_addFirst_16 : decode cJ1_addFirst 16 = .ok (.astore_n 2, 1) := sorry
theorem dJ1_addFirst_17 : decode cJ1_addFirst 17 = .ok (.aload_n 2, 1) := sorry
theorem dJ1_addFirst_18 : decode cJ1_addFirst 18 = .ok (.aload_n 0, 1) := sorry
theorem dJ1_addFirst_19 : decode cJ1_addFirst 19 = .ok (.aload_n 0, 1) := sorry
theorem dJ1_addFirst_20 : decode cJ1_addFirst 20 = .ok (.getfield 24, 3) := sorry
theorem dJ1_addFirst_23 : decode cJ1_addFirst 23 = .ok (.aload_n 2, 1) := sorry
theorem dJ1_addFirst_24 : decode cJ1_addFirst 24 = .ok (.arraylength, 1) := sorry
theorem dJ1_addFirst_25 : decode cJ1_addFirst 25 = .ok (.invokestatic 68, 3) := sorry
theorem dJ1_addFirst_28 : decode cJ1_addFirst 28 = .ok (.dup_x1, 1) := sorry
theorem dJ1_addFirst_29 : decode cJ1_addFirst 29 = .ok (.putfield 24, 3) := sorry
theorem dJ1_addFirst_32 : decode cJ1_addFirst 32 = .ok (.aload_n 1, 1) := sorry
theorem dJ1_addFirst_33 : decode cJ1_addFirst 33 = .ok (.aastore, 1) := sorry
theorem dJ1_addFirst_34 : decode cJ1_addFirst 34 = .ok (.aload_n 0, 1) := sorry
theorem dJ1_addFirst_35 : decode cJ1_addFirst 35 = .ok (.getfield 24, 3) := sorry
theorem dJ1_addFirst_38 : decode cJ1_addFirst 38 = .ok (.aload_n 0, 1) := sorry
theorem dJ1_addFirst_39 : decode cJ1_addFirst 39 = .ok (.getfield 20, 3) := sorry
theorem dJ1_addFirst_42 : decode cJ1_addFirst 42 = .ok (.if_icmp .ne 8, 3) := sorry
theorem dJ1_addFirst_45 : decode cJ1_addFirst 45 = .ok (.aload_n 0, 1) := sorry
theorem dJ1_addFirst_46 : decode cJ1_addFirst 46 = .ok (.iconst 1, 1) := sorry
theorem dJ1_addFirst_47 : decode cJ1_addFirst 47 = .ok (.invokevirtual 71, 3) := sorry
theorem dJ1_addFirst_50 : decode cJ1_addFirst 50 = .ok (.return_, 1) := sorry
theorem q86 : (Jvm.Cond.initialized "java/util/ArrayDeque") ∈ lw_all := sorry
theorem q136 : (Jvm.Cond.instantiable "java/util/ArrayDeque" (3 : Nat)) ∈ lw_all := sorry
theorem q138 : (Jvm.Cond.instanceMethod ({ cls := "java/util/ArrayDeque", name := "<init>", desc := "()V" } : Jvm.MethodName)) ∈ lw_all := sorry
theorem q139 : (Jvm.Cond.code ({ cls := "java/util/ArrayDeque", name := "<init>", desc := "()V" } : Jvm.MethodName) prog_46_method_3_code (1 : Nat) (Option.none : Option Jvm.ClassFile.FieldType)) ∈ lw_all := sorry
theorem q140 : (Jvm.Cond.methodLink "java/util/ArrayDeque" (42 : Nat) ({ cls := "java/util/AbstractCollection", name := "<init>", desc := "()V" } : Jvm.MethodName)) ∈ lw_all := sorry
theorem q144 : (Jvm.Cond.classLink "java/util/ArrayDeque" (47 : Nat) "java/lang/Object") ∈ lw_all := sorry
theorem q146 : (Jvm.Cond.fieldLink "java/util/ArrayDeque" (3 : Nat) "java/util/ArrayDeque" "elements" "[Ljava/lang/Object;") ∈ lw_all := sorry
theorem q149 : (Jvm.Cond.fieldLink "java/util/ArrayDeque" (24 : Nat) "java/util/ArrayDeque" "head" "I") ∈ lw_all := sorry
theorem q150 : (Jvm.Cond.fieldLink "java/util/ArrayDeque" (20 : Nat) "java/util/ArrayDeque" "tail" "I") ∈ lw_all := sorry
theorem q151 : (Jvm.Cond.lays "java/util/ArrayDeque" "java/util/ArrayDeque" "elements" "[Ljava/lang/Object;") ∈ lw_all := sorry
theorem q152 : (Jvm.Cond.soleField "java/util/ArrayDeque" "elements") ∈ lw_all := sorry
theorem q153 : (Jvm.Cond.lays "java/util/ArrayDeque" "java/util/ArrayDeque" "head" "I") ∈ lw_all := sorry
theorem q154 : (Jvm.Cond.soleField "java/util/ArrayDeque" "head") ∈ lw_all := sorry
theorem q155 : (Jvm.Cond.lays "java/util/ArrayDeque" "java/util/ArrayDeque" "tail" "I") ∈ lw_all := sorry
theorem q156 : (Jvm.Cond.soleField "java/util/ArrayDeque" "tail") ∈ lw_all := sorry
theorem q157 : (Jvm.Cond.superclass "java/util/ArrayDeque" "java/util/AbstractCollection") ∈ lw_all := sorry
theorem q555 : (Jvm.Cond.instanceMethod ({ cls := "java/util/ArrayDeque", name := "<init>", desc := "(I)V" } : Jvm.MethodName)) ∈ lw_all := sorry
theorem q556 : (Jvm.Cond.code ({ cls := "java/util/ArrayDeque", name := "<init>", desc := "(I)V" } : Jvm.MethodName) prog_46_method_4_code (2 : Nat) (Option.none : Option Jvm.ClassFile.FieldType)) ∈ lw_all := sorry
theorem q557 : (Jvm.Cond.constant "java/util/ArrayDeque" (41 : Nat) (2147483647 : Int32)) ∈ lw_all := sorry
theorem q725 : (Jvm.Cond.instanceMethod ({ cls := "java/util/ArrayDeque", name := "size", desc := "()I" } : Jvm.MethodName)) ∈ lw_all := sorry
theorem q726 : (Jvm.Cond.selects "java/util/ArrayDeque" ({ cls := "java/util/ArrayDeque", name := "size", desc := "()I" } : Jvm.MethodName) ({ cls := "java/util/ArrayDeque", name := "size", desc := "()I" } : Jvm.MethodName)) ∈ lw_all := sorry
theorem q727 : (Jvm.Cond.code ({ cls := "java/util/ArrayDeque", name := "size", desc := "()I" } : Jvm.MethodName) prog_46_method_37_code (1 : Nat) (Option.some Jvm.ClassFile.FieldType.int)) ∈ lw_all := sorry
theorem q728 : (Jvm.Cond.methodLink "java/util/ArrayDeque" (127 : Nat) ({ cls := "java/util/ArrayDeque", name := "sub", desc := "(III)I" } : Jvm.MethodName)) ∈ lw_all := sorry
theorem q729 : (Jvm.Cond.static ({ cls := "java/util/ArrayDeque", name := "sub", desc := "(III)I" } : Jvm.MethodName)) ∈ lw_all := sorry
theorem q730 : (Jvm.Cond.code ({ cls := "java/util/ArrayDeque", name := "sub", desc := "(III)I" } : Jvm.MethodName) prog_46_method_9_code (3 : Nat) (Option.some Jvm.ClassFile.FieldType.int)) ∈ lw_all := sorry
theorem q736 : (Jvm.Cond.instanceMethod ({ cls := "java/util/ArrayDeque", name := "iterator", desc := "()Ljava/util/Iterator;" } : Jvm.MethodName)) ∈ lw_all := sorry
theorem q737 : (Jvm.Cond.selects "java/util/ArrayDeque" ({ cls := "java/util/ArrayDeque", name := "iterator", desc := "()Ljava/util/Iterator;" } : Jvm.MethodName) ({ cls := "java/util/ArrayDeque", name := "iterator", desc := "()Ljava/util/Iterator;" } : Jvm.MethodName)) ∈ lw_all := sorry
theorem q738 : (Jvm.Cond.code ({ cls := "java/util/ArrayDeque", name := "iterator", desc := "()Ljava/util/Iterator;" } : Jvm.MethodName) prog_46_method_39_code (1 : Nat) (Option.some (Jvm.ClassFile.FieldType.object "java/util/Iterator"))) ∈ lw_all := sorry
theorem q739 : (Jvm.Cond.classLink "java/util/ArrayDeque" (131 : Nat) "java/util/ArrayDeque$DeqIterator") ∈ lw_all := sorry
theorem q741 : (Jvm.Cond.methodLink "java/util/ArrayDeque" (133 : Nat) ({ cls := "java/util/ArrayDeque$DeqIterator", name := "<init>", desc := "(Ljava/util/ArrayDeque;)V" } : Jvm.MethodName)) ∈ lw_all := sorry
theorem q863 : (Jvm.Cond.static ({ cls := "java/util/ArrayDeque", name := "nonNullElementAt", desc := "([Ljava/lang/Object;I)Ljava/lang/Object;" } : Jvm.MethodName)) ∈ lw_all := sorry
theorem q864 : (Jvm.Cond.code ({ cls := "java/util/ArrayDeque", name := "nonNullElementAt", desc := "([Ljava/lang/Object;I)Ljava/lang/Object;" } : Jvm.MethodName) prog_46_method_11_code (3 : Nat) (Option.some (Jvm.ClassFile.FieldType.object "java/lang/Object"))) ∈ lw_all := sorry
theorem q866 : (Jvm.Cond.static ({ cls := "java/util/ArrayDeque", name := "inc", desc := "(II)I" } : Jvm.MethodName)) ∈ lw_all := sorry
theorem q867 : (Jvm.Cond.code ({ cls := "java/util/ArrayDeque", name := "inc", desc := "(II)I" } : Jvm.MethodName) prog_46_method_6_code (2 : Nat) (Option.some Jvm.ClassFile.FieldType.int)) ∈ lw_all := sorry
theorem q882 : (Jvm.Cond.instanceMethod ({ cls := "java/util/ArrayDeque", name := "isEmpty", desc := "()Z" } : Jvm.MethodName)) ∈ lw_all := sorry
theorem q883 : (Jvm.Cond.selects "java/util/ArrayDeque" ({ cls := "java/util/ArrayDeque", name := "isEmpty", desc := "()Z" } : Jvm.MethodName) ({ cls := "java/util/ArrayDeque", name := "isEmpty", desc := "()Z" } : Jvm.MethodName)) ∈ lw_all := sorry
theorem q884 : (Jvm.Cond.code ({ cls := "java/util/ArrayDeque", name := "isEmpty", desc := "()Z" } : Jvm.MethodName) prog_46_method_38_code (1 : Nat) (Option.some Jvm.ClassFile.FieldType.boolean)) ∈ lw_all := sorry
theorem q886 : (Jvm.Cond.instanceMethod ({ cls := "java/util/ArrayDeque", name := "getFirst", desc := "()Ljava/lang/Object;" } : Jvm.MethodName)) ∈ lw_all := sorry
theorem q887 : (Jvm.Cond.selects "java/util/ArrayDeque" ({ cls := "java/util/ArrayDeque", name := "getFirst", desc := "()Ljava/lang/Object;" } : Jvm.MethodName) ({ cls := "java/util/ArrayDeque", name := "getFirst", desc := "()Ljava/lang/Object;" } : Jvm.MethodName)) ∈ lw_all := sorry
theorem q888 : (Jvm.Cond.code ({ cls := "java/util/ArrayDeque", name := "getFirst", desc := "()Ljava/lang/Object;" } : Jvm.MethodName) prog_46_method_22_code (2 : Nat) (Option.some (Jvm.ClassFile.FieldType.object "java/lang/Object"))) ∈ lw_all := sorry
theorem q889 : (Jvm.Cond.methodLink "java/util/ArrayDeque" (103 : Nat) ({ cls := "java/util/ArrayDeque", name := "elementAt", desc := "([Ljava/lang/Object;I)Ljava/lang/Object;" } : Jvm.MethodName)) ∈ lw_all := sorry
theorem q890 : (Jvm.Cond.static ({ cls := "java/util/ArrayDeque", name := "elementAt", desc := "([Ljava/lang/Object;I)Ljava/lang/Object;" } : Jvm.MethodName)) ∈ lw_all := sorry
theorem q891 : (Jvm.Cond.code ({ cls := "java/util/ArrayDeque", name := "elementAt", desc := "([Ljava/lang/Object;I)Ljava/lang/Object;" } : Jvm.MethodName) prog_46_method_10_code (2 : Nat) (Option.some (Jvm.ClassFile.FieldType.object "java/lang/Object"))) ∈ lw_all := sorry
theorem q892 : (Jvm.Cond.classLink "java/util/ArrayDeque" (97 : Nat) "java/util/NoSuchElementException") ∈ lw_all := sorry
theorem q893 : (Jvm.Cond.methodLink "java/util/ArrayDeque" (99 : Nat) ({ cls := "java/util/NoSuchElementException", name := "<init>", desc := "()V" } : Jvm.MethodName)) ∈ lw_all := sorry
theorem q953 : (Jvm.Cond.instanceMethod ({ cls := "java/util/ArrayDeque", name := "removeLast", desc := "()Ljava/lang/Object;" } : Jvm.MethodName)) ∈ lw_all := sorry
theorem q954 : (Jvm.Cond.selects "java/util/ArrayDeque" ({ cls := "java/util/ArrayDeque", name := "removeLast", desc := "()Ljava/lang/Object;" } : Jvm.MethodName) ({ cls := "java/util/ArrayDeque", name := "removeLast", desc := "()Ljava/lang/Object;" } : Jvm.MethodName)) ∈ lw_all := sorry
theorem q955 : (Jvm.Cond.code ({ cls := "java/util/ArrayDeque", name := "removeLast", desc := "()Ljava/lang/Object;" } : Jvm.MethodName) prog_46_method_19_code (2 : Nat) (Option.some (Jvm.ClassFile.FieldType.object "java/lang/Object"))) ∈ lw_all := sorry
theorem q956 : (Jvm.Cond.methodLink "java/util/ArrayDeque" (100 : Nat) ({ cls := "java/util/ArrayDeque", name := "pollLast", desc := "()Ljava/lang/Object;" } : Jvm.MethodName)) ∈ lw_all := sorry
theorem q957 : (Jvm.Cond.instanceMethod ({ cls := "java/util/ArrayDeque", name := "pollLast", desc := "()Ljava/lang/Object;" } : Jvm.MethodName)) ∈ lw_all := sorry
theorem q958 : (Jvm.Cond.selects "java/util/ArrayDeque" ({ cls := "java/util/ArrayDeque", name := "pollLast", desc := "()Ljava/lang/Object;" } : Jvm.MethodName) ({ cls := "java/util/ArrayDeque", name := "pollLast", desc := "()Ljava/lang/Object;" } : Jvm.MethodName)) ∈ lw_all := sorry
theorem q959 : (Jvm.Cond.code ({ cls := "java/util/ArrayDeque", name := "pollLast", desc := "()Ljava/lang/Object;" } : Jvm.MethodName) prog_46_method_21_code (4 : Nat) (Option.some (Jvm.ClassFile.FieldType.object "java/lang/Object"))) ∈ lw_all := sorry
theorem q960 : (Jvm.Cond.methodLink "java/util/ArrayDeque" (68 : Nat) ({ cls := "java/util/ArrayDeque", name := "dec", desc := "(II)I" } : Jvm.MethodName)) ∈ lw_all := sorry
theorem q961 : (Jvm.Cond.static ({ cls := "java/util/ArrayDeque", name := "dec", desc := "(II)I" } : Jvm.MethodName)) ∈ lw_all := sorry
theorem q962 : (Jvm.Cond.code ({ cls := "java/util/ArrayDeque", name := "dec", desc := "(II)I" } : Jvm.MethodName) prog_46_method_7_code (2 : Nat) (Option.some Jvm.ClassFile.FieldType.int)) ∈ lw_all := sorry
theorem q1309 : (Jvm.Cond.selects "java/util/ArrayDeque" ({ cls := "java/lang/Object", name := "getClass", desc := "()Ljava/lang/Class;" } : Jvm.MethodName) ({ cls := "java/lang/Object", name := "getClass", desc := "()Ljava/lang/Class;" } : Jvm.MethodName)) ∈ lw_all := sorry
theorem q1326 : (Jvm.Cond.instanceMethod ({ cls := "java/util/ArrayDeque", name := "clear", desc := "()V" } : Jvm.MethodName)) ∈ lw_all := sorry
theorem q1327 : (Jvm.Cond.selects "java/util/ArrayDeque" ({ cls := "java/util/ArrayDeque", name := "clear", desc := "()V" } : Jvm.MethodName) ({ cls := "java/util/ArrayDeque", name := "clear", desc := "()V" } : Jvm.MethodName)) ∈ lw_all := sorry
theorem q1328 : (Jvm.Cond.code ({ cls := "java/util/ArrayDeque", name := "clear", desc := "()V" } : Jvm.MethodName) prog_46_method_53_code (1 : Nat) (Option.none : Option Jvm.ClassFile.FieldType)) ∈ lw_all := sorry
theorem q1329 : (Jvm.Cond.methodLink "java/util/ArrayDeque" (181 : Nat) ({ cls := "java/util/ArrayDeque", name := "circularClear", desc := "([Ljava/lang/Object;II)V" } : Jvm.MethodName)) ∈ lw_all := sorry
theorem q1330 : (Jvm.Cond.static ({ cls := "java/util/ArrayDeque", name := "circularClear", desc := "([Ljava/lang/Object;II)V" } : Jvm.MethodName)) ∈ lw_all := sorry
theorem q1331 : (Jvm.Cond.code ({ cls := "java/util/ArrayDeque", name := "circularClear", desc := "([Ljava/lang/Object;II)V" } : Jvm.MethodName) prog_46_method_54_code (4 : Nat) (Option.none : Option Jvm.ClassFile.FieldType)) ∈ lw_all := sorry
theorem q1353 : (Jvm.Cond.instanceMethod ({ cls := "java/util/ArrayDeque", name := "removeFirst", desc := "()Ljava/lang/Object;" } : Jvm.MethodName)) ∈ lw_all := sorry
theorem q1354 : (Jvm.Cond.selects "java/util/ArrayDeque" ({ cls := "java/util/ArrayDeque", name := "removeFirst", desc := "()Ljava/lang/Object;" } : Jvm.MethodName) ({ cls := "java/util/ArrayDeque", name := "removeFirst", desc := "()Ljava/lang/Object;" } : Jvm.MethodName)) ∈ lw_all := sorry
theorem q1355 : (Jvm.Cond.code ({ cls := "java/util/ArrayDeque", name := "removeFirst", desc := "()Ljava/lang/Object;" } : Jvm.MethodName) prog_46_method_18_code (2 : Nat) (Option.some (Jvm.ClassFile.FieldType.object "java/lang/Object"))) ∈ lw_all := sorry
theorem q1356 : (Jvm.Cond.methodLink "java/util/ArrayDeque" (93 : Nat) ({ cls := "java/util/ArrayDeque", name := "pollFirst", desc := "()Ljava/lang/Object;" } : Jvm.MethodName)) ∈ lw_all := sorry
theorem q1357 : (Jvm.Cond.instanceMethod ({ cls := "java/util/ArrayDeque", name := "pollFirst", desc := "()Ljava/lang/Object;" } : Jvm.MethodName)) ∈ lw_all := sorry
theorem q1358 : (Jvm.Cond.selects "java/util/ArrayDeque" ({ cls := "java/util/ArrayDeque", name := "pollFirst", desc := "()Ljava/lang/Object;" } : Jvm.MethodName) ({ cls := "java/util/ArrayDeque", name := "pollFirst", desc := "()Ljava/lang/Object;" } : Jvm.MethodName)) ∈ lw_all := sorry
theorem q1359 : (Jvm.Cond.code ({ cls := "java/util/ArrayDeque", name := "pollFirst", desc := "()Ljava/lang/Object;" } : Jvm.MethodName) prog_46_method_20_code (4 : Nat) (Option.some (Jvm.ClassFile.FieldType.object "java/lang/Object"))) ∈ lw_all := sorry
theorem q1360 : (Jvm.Cond.methodLink "java/util/ArrayDeque" (74 : Nat) ({ cls := "java/util/ArrayDeque", name := "inc", desc := "(II)I" } : Jvm.MethodName)) ∈ lw_all := sorry
theorem q1403 : (Jvm.Cond.instanceMethod ({ cls := "java/util/ArrayDeque", name := "addLast", desc := "(Ljava/lang/Object;)V" } : Jvm.MethodName)) ∈ lw_all := sorry
theorem q1404 : (Jvm.Cond.selects "java/util/ArrayDeque" ({ cls := "java/util/ArrayDeque", name := "addLast", desc := "(Ljava/lang/Object;)V" } : Jvm.MethodName) ({ cls := "java/util/ArrayDeque", name := "addLast", desc := "(Ljava/lang/Object;)V" } : Jvm.MethodName)) ∈ lw_all := sorry
theorem q1405 : (Jvm.Cond.code ({ cls := "java/util/ArrayDeque", name := "addLast", desc := "(Ljava/lang/Object;)V" } : Jvm.MethodName) prog_46_method_13_code (3 : Nat) (Option.none : Option Jvm.ClassFile.FieldType)) ∈ lw_all := sorry
theorem q1406 : (Jvm.Cond.methodLink "java/util/ArrayDeque" (71 : Nat) ({ cls := "java/util/ArrayDeque", name := "grow", desc := "(I)V" } : Jvm.MethodName)) ∈ lw_all := sorry
theorem q1407 : (Jvm.Cond.privateMethod ({ cls := "java/util/ArrayDeque", name := "grow", desc := "(I)V" } : Jvm.MethodName)) ∈ lw_tbl := sorry
theorem q1408 : (Jvm.Cond.instanceMethod ({ cls := "java/util/ArrayDeque", name := "grow", desc := "(I)V" } : Jvm.MethodName)) ∈ lw_all := sorry
theorem q1409 : (Jvm.Cond.code ({ cls := "java/util/ArrayDeque", name := "grow", desc := "(I)V" } : Jvm.MethodName) prog_46_method_1_code (9 : Nat) (Option.none : Option Jvm.ClassFile.FieldType)) ∈ lw_all := sorry
theorem q1410 : (Jvm.Cond.constant "java/util/ArrayDeque" (9 : Nat) (2147483639 : Int32)) ∈ lw_all := sorry
theorem q1411 : (Jvm.Cond.methodLink "java/util/ArrayDeque" (10 : Nat) ({ cls := "java/util/ArrayDeque", name := "newCapacity", desc := "(II)I" } : Jvm.MethodName)) ∈ lw_all := sorry
theorem q1412 : (Jvm.Cond.privateMethod ({ cls := "java/util/ArrayDeque", name := "newCapacity", desc := "(II)I" } : Jvm.MethodName)) ∈ lw_tbl := sorry
theorem q1413 : (Jvm.Cond.instanceMethod ({ cls := "java/util/ArrayDeque", name := "newCapacity", desc := "(II)I" } : Jvm.MethodName)) ∈ lw_all := sorry
theorem q1414 : (Jvm.Cond.code ({ cls := "java/util/ArrayDeque", name := "newCapacity", desc := "(II)I" } : Jvm.MethodName) prog_46_method_2_code (5 : Nat) (Option.some Jvm.ClassFile.FieldType.int)) ∈ lw_all := sorry
theorem q1415 : (Jvm.Cond.classLink "java/util/ArrayDeque" (33 : Nat) "java/lang/IllegalStateException") ∈ lw_all := sorry
theorem q1424 : (Jvm.Cond.stringRef "java/util/ArrayDeque" (35 : Nat) "Sorry, deque too big") ∈ lw_tbl := sorry
theorem q1425 : (Jvm.Cond.methodLink "java/util/ArrayDeque" (37 : Nat) ({ cls := "java/lang/IllegalStateException", name := "<init>", desc := "(Ljava/lang/String;)V" } : Jvm.MethodName)) ∈ lw_all := sorry
theorem q1431 : (Jvm.Cond.methodLink "java/util/ArrayDeque" (14 : Nat) ({ cls := "java/util/Arrays", name := "copyOf", desc := "([Ljava/lang/Object;I)[Ljava/lang/Object;" } : Jvm.MethodName)) ∈ lw_all := sorry
theorem q1432 : (Jvm.Cond.methodLink "java/util/ArrayDeque" (27 : Nat) ({ cls := "java/lang/System", name := "arraycopy", desc := "(Ljava/lang/Object;ILjava/lang/Object;II)V" } : Jvm.MethodName)) ∈ lw_all := sorry
theorem q1847 : (Jvm.Cond.instanceMethod ({ cls := "java/util/ArrayDeque", name := "addFirst", desc := "(Ljava/lang/Object;)V" } : Jvm.MethodName)) ∈ lw_all := sorry
theorem q1848 : (Jvm.Cond.selects "java/util/ArrayDeque" ({ cls := "java/util/ArrayDeque", name := "addFirst", desc := "(Ljava/lang/Object;)V" } : Jvm.MethodName) ({ cls := "java/util/ArrayDeque", name := "addFirst", desc := "(Ljava/lang/Object;)V" } : Jvm.MethodName)) ∈ lw_all := sorry
theorem q1849 : (Jvm.Cond.code ({ cls := "java/util/ArrayDeque", name := "addFirst", desc := "(Ljava/lang/Object;)V" } : Jvm.MethodName) prog_46_method_12_code (3 : Nat) (Option.none : Option Jvm.ClassFile.FieldType)) ∈ lw_all := sorry
theorem q2638 : (Jvm.Cond.castable "java/util/ArrayDeque" "java/lang/Object") ∈ lw_tbl := sorry
theorem in_J1 : ∀ w ∈ wsJ10, w ∈ lw_all := sorry
/-! java/util/AbstractList -/
set_option maxRecDepth 100000
def RJ2 : String := "java/util/AbstractList"
abbrev cJ2_init : ByteArray := prog_45_method_1_code
def yJ2_init : MethodName := ⟨RJ2, "<init>", "()V"⟩
def dkwJ2_init_0 : List UInt8 := [42, 183, 0, 1, 42, 3, 181, 0, 7, 177]
abbrev dktJ2_init_0 : List UInt8 := dkwJ2_init_0 ++ []
theorem dksJ2_init_0 : cJ2_init.data.toList.drop 0 = dktJ2_init_0 := sorry
theorem dJ2_init_0 : decode cJ2_init 0 = .ok (.aload_n 0, 1) := sorry
theorem dJ2_init_1 : decode cJ2_init 1 = .ok (.invokespecial 1, 3) := sorry
theorem dJ2_init_4 : decode cJ2_init 4 = .ok (.aload_n 0, 1) := sorry
theorem dJ2_init_5 : decode cJ2_init 5 = .ok (.iconst 0, 1) := sorry
theorem dJ2_init_6 : decode cJ2_init 6 = .ok (.putfield 7, 3) := sorry
theorem dJ2_init_9 : decode cJ2_init 9 = .ok (.return_, 1) := sorry
theorem q88 : (Jvm.Cond.initialized "java/util/AbstractList") ∈ lw_all := sorry
theorem q171 : (Jvm.Cond.instanceMethod ({ cls := "java/util/AbstractList", name := "<init>", desc := "()V" } : Jvm.MethodName)) ∈ lw_all := sorry
theorem q172 : (Jvm.Cond.code ({ cls := "java/util/AbstractList", name := "<init>", desc := "()V" } : Jvm.MethodName) prog_45_method_1_code (1 : Nat) (Option.none : Option Jvm.ClassFile.FieldType)) ∈ lw_all := sorry
theorem q173 : (Jvm.Cond.methodLink "java/util/AbstractList" (1 : Nat) ({ cls := "java/util/AbstractCollection", name := "<init>", desc := "()V" } : Jvm.MethodName)) ∈ lw_all := sorry
theorem q501 : (Jvm.Cond.fieldLink "java/util/AbstractList" (7 : Nat) "java/util/AbstractList" "modCount" "I") ∈ lw_all := sorry
theorem q509 : (Jvm.Cond.soleField "java/util/AbstractList" "modCount") ∈ lw_all := sorry
/-! java/util/ArrayList -/
set_option maxRecDepth 100000
def RJ3 : String := "java/util/ArrayList"
def TJ3 : u_T := fun k => match k with
  | 0 => ("java/util/AbstractList", "modCount", "I", false)
  | 1 => ("java/util/ArrayList", "elementData", "[Ljava/lang/Object;", false)
  | _ => ("java/util/ArrayList", "size", "I", false)
def tyJ3 : Nat → FieldType := fun k => match k with
  | 0 => .int
  | 1 => .array (.object "java/lang/Object")
  | _ => .int
abbrev wsJ30 : List Cond := u_ws RJ3 TJ3 3
theorem nmJ3 : ∀ a, a < 3 → ∀ b, b < 3 → a ≠ b → (TJ3 a).2.1 ≠ (TJ3 b).2.1 := sorry
theorem tyJ3_ok : ∀ k, k < 3 → parseFieldDescriptor (TJ3 k).2.2.1 = some (tyJ3 k) := sorry
abbrev cJ3_init : ByteArray := prog_48_method_1_code
def yJ3_init : MethodName := ⟨RJ3, "<init>", "(I)V"⟩
def dkwJ3_init_2 : List UInt8 := [182, 0, 25, 27, 182, 0, 29, 182, 0, 32, 183, 0, 36, 191, 177]
abbrev dktJ3_init_2 : List UInt8 := dkwJ3_init_2 ++ []
def dkwJ3_init_1 : List UInt8 := [178, 0, 15, 181, 0, 9, 167, 0, 30, 187, 0, 18, 89, 187, 0, 20, 89, 183, 0, 22, 18, 23]
abbrev dktJ3_init_1 : List UInt8 := dkwJ3_init_1 ++ dktJ3_init_2
def dkwJ3_init_0 : List UInt8 := [42, 183, 0, 1, 27, 158, 0, 14, 42, 27, 189, 0, 7, 181, 0, 9, 167, 0, 44, 27, 154, 0, 13, 42]
abbrev dktJ3_init_0 : List UInt8 := dkwJ3_init_0 ++ dktJ3_init_1
theorem dksJ3_init_0 : cJ3_init.data.toList.drop 0 = dktJ3_init_0 := sorry
theorem dksJ3_init_1 : cJ3_init.data.toList.drop 24 = dktJ3_init_1 := sorry
theorem dksJ3_init_2 : cJ3_init.data.toList.drop 46 = dktJ3_init_2 := sorry
theorem dJ3_init_0 : decode cJ3_init 0 = .ok (.aload_n 0, 1) := sorry
theorem dJ3_init_1 : decode cJ3_init 1 = .ok (.invokespecial 1, 3) := sorry
theorem dJ3_init_4 : decode cJ3_init 4 = .ok (.iload_n 1, 1) := sorry
theorem dJ3_init_5 : decode cJ3_init 5 = .ok (.ifCond .le 14, 3) := sorry
theorem dJ3_init_8 : decode cJ3_init 8 = .ok (.aload_n 0, 1) := sorry
theorem dJ3_init_9 : decode cJ3_init 9 = .ok (.iload_n 1, 1) := sorry
theorem dJ3_init_10 : decode cJ3_init 10 = .ok (.anewarray 7, 3) := sorry
theorem dJ3_init_13 : decode cJ3_init 13 = .ok (.putfield 9, 3) := sorry
theorem dJ3_init_16 : decode cJ3_init 16 = .ok (.goto 44, 3) := sorry
theorem dJ3_init_19 : decode cJ3_init 19 = .ok (.iload_n 1, 1) := sorry
theorem dJ3_init_20 : decode cJ3_init 20 = .ok (.ifCond .ne 13, 3) := sorry
theorem dJ3_init_23 : decode cJ3_init 23 = .ok (.aload_n 0, 1) := sorry
theorem dJ3_init_24 : decode cJ3_init 24 = .ok (.getstatic 15, 3) := sorry
theorem dJ3_init_27 : decode cJ3_init 27 = .ok (.putfield 9, 3) := sorry
theorem dJ3_init_30 : decode cJ3_init 30 = .ok (.goto 30, 3) := sorry
theorem dJ3_init_33 : decode cJ3_init 33 = .ok (.new 18, 3) := sorry
theorem dJ3_init_36 : decode cJ3_init 36 = .ok (.dup, 1) := sorry
theorem dJ3_init_37 : decode cJ3_init 37 = .ok (.new 20, 3) := sorry
theorem dJ3_init_40 : decode cJ3_init 40 = .ok (.dup, 1) := sorry
theorem dJ3_init_41 : decode cJ3_init 41 = .ok (.invokespecial 22, 3) := sorry
theorem dJ3_init_44 : decode cJ3_init 44 = .ok (.ldc 23, 2) := sorry
theorem dJ3_init_46 : decode cJ3_init 46 = .ok (.invokevirtual 25, 3) := sorry
theorem dJ3_init_49 : decode cJ3_init 49 = .ok (.iload_n 1, 1) := sorry
theorem dJ3_init_50 : decode cJ3_init 50 = .ok (.invokevirtual 29, 3) := sorry
theorem dJ3_init_53 : decode cJ3_init 53 = .ok (.invokevirtual 32, 3) := sorry
theorem dJ3_init_56 : decode cJ3_init 56 = .ok (.invokespecial 36, 3) := sorry
theorem dJ3_init_59 : decode cJ3_init 59 = .ok (.athrow, 1) := sorry
theorem dJ3_init_60 : decode cJ3_init 60 = .ok (.return_, 1) := sorry
abbrev cJ3_size : ByteArray := prog_48_method_8_code
def yJ3_size : MethodName := ⟨RJ3, "size", "()I"⟩
theorem dJ3_size_0 : decode cJ3_size 0 = .ok (.aload_n 0, 1) := sorry
theorem dJ3_size_1 : decode cJ3_size 1 = .ok (.getfield 48, 3) := sorry
theorem dJ3_size_4 : decode cJ3_size 4 = .ok (.ireturn, 1) := sorry
abbrev cJ3_get : ByteArray := prog_48_method_20_code
def yJ3_get : MethodName := ⟨RJ3, "get", "(I)Ljava/lang/Object;"⟩
def dkwJ3_get_0 : List UInt8 := [27, 42, 180, 0, 48, 184, 0, 118, 87, 42, 27, 182, 0, 123, 176]
abbrev dktJ3_get_0 : List UInt8 := dkwJ3_get_0 ++ []
theorem dksJ3_get_0 : cJ3_get.data.toList.drop 0 = dktJ3_get_0 := sorry
theorem dJ3_get_0 : decode cJ3_get 0 = .ok (.iload_n 1, 1) := sorry
theorem dJ3_get_1 : decode cJ3_get 1 = .ok (.aload_n 0, 1) := sorry
theorem dJ3_get_2 : decode cJ3_get 2 = .ok (.getfield 48, 3) := sorry
theorem dJ3_get_5 : decode cJ3_get 5 = .ok (.invokestatic 118, 3) := sorry
theorem dJ3_get_8 : decode cJ3_get 8 = .ok (.pop, 1) := sorry
theorem dJ3_get_9 : decode cJ3_get 9 = .ok (.aload_n 0, 1) := sorry
theorem dJ3_get_10 : decode cJ3_get 10 = .ok (.iload_n 1, 1) := sorry
theorem dJ3_get_11 : decode cJ3_get 11 = .ok (.invokevirtual 123, 3) := sorry
theorem dJ3_get_14 : decode cJ3_get 14 = .ok (.areturn, 1) := sorry
abbrev cJ3_elementData : ByteArray := prog_48_method_18_code
def yJ3_elementData : MethodName := ⟨RJ3, "elementData", "(I)Ljava/lang/Object;"⟩
def dkwJ3_elementData_0 : List UInt8 := [42, 180, 0, 9, 27, 50, 176]
abbrev dktJ3_elementData_0 : List UInt8 := dkwJ3_elementData_0 ++ []
theorem dksJ3_elementData_0 : cJ3_elementData.data.toList.drop 0 = dktJ3_elementData_0 := sorry
theorem dJ3_elementData_0 : decode cJ3_elementData 0 = .ok (.aload_n 0, 1) := sorry
theorem dJ3_elementData_1 : decode cJ3_elementData 1 = .ok (.getfield 9, 3) := sorry
theorem dJ3_elementData_4 : decode cJ3_elementData 4 = .ok (.iload_n 1, 1) := sorry
theorem dJ3_elementData_5 : decode cJ3_elementData 5 = .ok (.aaload, 1) := sorry
theorem dJ3_elementData_6 : decode cJ3_elementData 6 = .ok (.areturn, 1) := sorry
abbrev cJ3_add : ByteArray := prog_48_method_25_code
def yJ3_add : MethodName := ⟨RJ3, "add", "(Ljava/lang/Object;)Z"⟩
def dkwJ3_add_1 : List UInt8 := [172]
abbrev dktJ3_add_1 : List UInt8 := dkwJ3_add_1 ++ []
def dkwJ3_add_0 : List UInt8 := [42, 89, 180, 0, 63, 4, 96, 181, 0, 63, 42, 43, 42, 180, 0, 9, 42, 180, 0, 48, 182, 0, 131, 4]
abbrev dktJ3_add_0 : List UInt8 := dkwJ3_add_0 ++ dktJ3_add_1
theorem dksJ3_add_0 : cJ3_add.data.toList.drop 0 = dktJ3_add_0 := sorry
theorem dksJ3_add_1 : cJ3_add.data.toList.drop 24 = dktJ3_add_1 := sorry
theorem dJ3_add_0 : decode cJ3_add 0 = .ok (.aload_n 0, 1) := sorry
theorem dJ3_add_1 : decode cJ3_add 1 = .ok (.dup, 1) := sorry
theorem dJ3_add_2 : decode cJ3_add 2 = .ok (.getfield 63, 3) := sorry
theorem dJ3_add_5 : decode cJ3_add 5 = .ok (.iconst 1, 1) := sorry
theorem dJ3_add_6 : decode cJ3_add 6 = .ok (.iadd, 1) := sorry
theorem dJ3_add_7 : decode cJ3_add 7 = .ok (.putfield 63, 3) := sorry
theorem dJ3_add_10 : decode cJ3_add 10 = .ok (.aload_n 0, 1) := sorry
theorem dJ3_add_11 : decode cJ3_add 11 = .ok (.aload_n 1, 1) := sorry
theorem dJ3_add_12 : decode cJ3_add 12 = .ok (.aload_n 0, 1) := sorry
theorem dJ3_add_13 : decode cJ3_add 13 = .ok (.getfield 9, 3) := sorry
theorem dJ3_add_16 : decode cJ3_add 16 = .ok (.aload_n 0, 1) := sorry
theorem dJ3_add_17 : decode cJ3_add 17 = .ok (.getfield 48, 3) := sorry
theorem dJ3_add_20 : decode cJ3_add 20 = .ok (.invokevirtual 131, 3) := sorry
theorem dJ3_add_23 : decode cJ3_add 23 = .ok (.iconst 1, 1) := sorry
theorem dJ3_add_24 : decode cJ3_add 24 = .ok (.ireturn, 1) := sorry
abbrev cJ3_add_2 : ByteArray := prog_48_method_24_code
def yJ3_add_2 : MethodName := ⟨RJ3, "add", "(Ljava/lang/Object;[Ljava/lang/Object;I)V"⟩
def dkwJ3_add_2_0 : List UInt8 := [29, 44, 190, 160, 0, 8, 42, 182, 0, 129, 77, 44, 29, 43, 83, 42, 29, 4, 96, 181, 0, 48, 177]
abbrev dktJ3_add_2_0 : List UInt8 := dkwJ3_add_2_0 ++ []
theorem dksJ3_add_2_0 : cJ3_add_2.data.toList.drop 0 = dktJ3_add_2_0 := sorry
theorem dJ3_add_2_0 : decode cJ3_add_2 0 = .ok (.iload_n 3, 1) := sorry
theorem dJ3_add_2_1 : decode cJ3_add_2 1 = .ok (.aload_n 2, 1) := sorry
theorem dJ3_add_2_2 : decode cJ3_add_2 2 = .ok (.arraylength, 1) := sorry
theorem dJ3_add_2_3 : decode cJ3_add_2 3 = .ok (.if_icmp .ne 8, 3) := sorry
theorem dJ3_add_2_6 : decode cJ3_add_2 6 = .ok (.aload_n 0, 1) := sorry
theorem dJ3_add_2_7 : decode cJ3_add_2 7 = .ok (.invokevirtual 129, 3) := sorry
theorem dJ3_add_2_10 : decode cJ3_add_2 10 = .ok (.astore_n 2, 1) := sorry
theorem dJ3_add_2_11 : decode cJ3_add_2 11 = .ok (.aload_n 2, 1) := sorry
theorem dJ3_add_2_12 : decode cJ3_add_2 12 = .ok (.iload_n 3, 1) := sorry
theorem dJ3_add_2_13 : decode cJ3_add_2 13 = .ok (.aload_n 1, 1) := sorry
theorem dJ3_add_2_14 : decode cJ3_add_2 14 = .ok (.aastore, 1) := sorry
theorem dJ3_add_2_15 : decode cJ3_add_2 15 = .ok (.aload_n 0, 1) := sorry
theorem dJ3_add_2_16 : decode cJ3_add_2 16 = .ok (.iload_n 3, 1) := sorry
theorem dJ3_add_2_17 : decode cJ3_add_2 17 = .ok (.iconst 1, 1) := sorry
theorem dJ3_add_2_18 : decode cJ3_add_2 18 = .ok (.iadd, 1) := sorry
theorem dJ3_add_2_19 : decode cJ3_add_2 19 = .ok (.putfield 48, 3) := sorry
theorem dJ3_add_2_22 : decode cJ3_add_2 22 = .ok (.return_, 1) := sorry
abbrev cJ3_grow : ByteArray := prog_48_method_7_code
def yJ3_grow : MethodName := ⟨RJ3, "grow", "()[Ljava/lang/Object;"⟩
def dkwJ3_grow_0 : List UInt8 := [42, 42, 180, 0, 48, 4, 96, 182, 0, 69, 176]
abbrev dktJ3_grow_0 : List UInt8 := dkwJ3_grow_0 ++ []
theorem dksJ3_grow_0 : cJ3_grow.data.toList.drop 0 = dktJ3_grow_0 := sorry
theorem dJ3_grow_0 : decode cJ3_grow 0 = .ok (.aload_n 0, 1) := sorry
theorem dJ3_grow_1 : decode cJ3_grow 1 = .ok (.aload_n 0, 1) := sorry
theorem dJ3_grow_2 : decode cJ3_grow 2 = .ok (.getfield 48, 3) := sorry
theorem dJ3_grow_5 : decode cJ3_grow 5 = .ok (.iconst 1, 1) := sorry
theorem dJ3_grow_6 : decode cJ3_grow 6 = .ok (.iadd, 1) := sorry
theorem dJ3_grow_7 : decode cJ3_grow 7 = .ok (.invokevirtual 69, 3) := sorry
theorem dJ3_grow_10 : decode cJ3_grow 10 = .ok (.areturn, 1) := sorry
abbrev cJ3_grow_2 : ByteArray := prog_48_method_6_code
def yJ3_grow_2 : MethodName := ⟨RJ3, "grow", "(I)[Ljava/lang/Object;"⟩
def dkwJ3_grow_2_2 : List UInt8 := [27, 184, 0, 79, 189, 0, 7, 90, 181, 0, 9, 176]
abbrev dktJ3_grow_2_2 : List UInt8 := dkwJ3_grow_2_2 ++ []
def dkwJ3_grow_2_1 : List UInt8 := [28, 4, 122, 184, 0, 73, 62, 42, 42, 180, 0, 9, 29, 184, 0, 66, 90, 181, 0, 9, 176, 42, 16, 10]
abbrev dktJ3_grow_2_1 : List UInt8 := dkwJ3_grow_2_1 ++ dktJ3_grow_2_2
def dkwJ3_grow_2_0 : List UInt8 := [42, 180, 0, 9, 190, 61, 28, 157, 0, 13, 42, 180, 0, 9, 178, 0, 39, 165, 0, 28, 28, 27, 28, 100]
abbrev dktJ3_grow_2_0 : List UInt8 := dkwJ3_grow_2_0 ++ dktJ3_grow_2_1
theorem dksJ3_grow_2_0 : cJ3_grow_2.data.toList.drop 0 = dktJ3_grow_2_0 := sorry
theorem dksJ3_grow_2_1 : cJ3_grow_2.data.toList.drop 24 = dktJ3_grow_2_1 := sorry
theorem dksJ3_grow_2_2 : cJ3_grow_2.data.toList.drop 48 = dktJ3_grow_2_2 := sorry
theorem dJ3_grow_2_0 : decode cJ3_grow_2 0 = .ok (.aload_n 0, 1) := sorry
theorem dJ3_grow_2_1 : decode cJ3_grow_2 1 = .ok (.getfield 9, 3) := sorry
theorem dJ3_grow_2_4 : decode cJ3_grow_2 4 = .ok (.arraylength, 1) := sorry
theorem dJ3_grow_2_5 : decode cJ3_grow_2 5 = .ok (.istore_n 2, 1) := sorry
theorem dJ3_grow_2_6 : decode cJ3_grow_2 6 = .ok (.iload_n 2, 1) := sorry
theorem dJ3_grow_2_7 : decode cJ3_grow_2 7 = .ok (.ifCond .gt 13, 3) := sorry
theorem dJ3_grow_2_10 : decode cJ3_grow_2 10 = .ok (.aload_n 0, 1) := sorry
theorem dJ3_grow_2_11 : decode cJ3_grow_2 11 = .ok (.getfield 9, 3) := sorry
theorem dJ3_grow_2_14 : decode cJ3_grow_2 14 = .ok (.getstatic 39, 3) := sorry
theorem dJ3_grow_2_17 : decode cJ3_grow_2 17 = .ok (.if_acmp .eq 28, 3) := sorry
theorem dJ3_grow_2_20 : decode cJ3_grow_2 20 = .ok (.iload_n 2, 1) := sorry
theorem dJ3_grow_2_21 : decode cJ3_grow_2 21 = .ok (.iload_n 1, 1) := sorry
theorem dJ3_grow_2_22 : decode cJ3_grow_2 22 = .ok (.iload_n 2, 1) := sorry
theorem dJ3_grow_2_23 : decode cJ3_grow_2 23 = .ok (.isub, 1) := sorry
theorem dJ3_grow_2_24 : decode cJ3_grow_2 24 = .ok (.iload_n 2, 1) := sorry
theorem dJ3_grow_2_25 : decode cJ3_grow_2 25 = .ok (.iconst 1, 1) := sorry
theorem dJ3_grow_2_26 : decode cJ3_grow_2 26 = .ok (.ishr, 1) := sorry
theorem dJ3_grow_2_27 : decode cJ3_grow_2 27 = .ok (.invokestatic 73, 3) := sorry
theorem dJ3_grow_2_30 : decode cJ3_grow_2 30 = .ok (.istore_n 3, 1) := sorry
theorem dJ3_grow_2_31 : decode cJ3_grow_2 31 = .ok (.aload_n 0, 1) := sorry
theorem dJ3_grow_2_32 : decode cJ3_grow_2 32 = .ok (.aload_n 0, 1) := sorry
theorem dJ3_grow_2_33 : decode cJ3_grow_2 33 = .ok (.getfield 9, 3) := sorry
theorem dJ3_grow_2_36 : decode cJ3_grow_2 36 = .ok (.iload_n 3, 1) := sorry
theorem dJ3_grow_2_37 : decode cJ3_grow_2 37 = .ok (.invokestatic 66, 3) := sorry
theorem dJ3_grow_2_40 : decode cJ3_grow_2 40 = .ok (.dup_x1, 1) := sorry
theorem dJ3_grow_2_41 : decode cJ3_grow_2 41 = .ok (.putfield 9, 3) := sorry
theorem dJ3_grow_2_44 : decode cJ3_grow_2 44 = .ok (.areturn, 1) := sorry
theorem dJ3_grow_2_45 : decode cJ3_grow_2 45 = .ok (.aload_n 0, 1) := sorry
theorem dJ3_grow_2_46 : decode cJ3_grow_2 46 = .ok (.bipush 10, 2) := sorry
theorem dJ3_grow_2_48 : decode cJ3_grow_2 48 = .ok (.iload_n 1, 1) := sorry
theorem dJ3_grow_2_49 : decode cJ3_grow_2 49 = .ok (.invokestatic 79, 3) := sorry
theorem dJ3_grow_2_52 : decode cJ3_grow_2 52 = .ok (.anewarray 7, 3) := sorry
theorem dJ3_grow_2_55 : decode cJ3_grow_2 55 = .ok (.dup_x1, 1) := sorry
theorem dJ3_grow_2_56 : decode cJ3_grow_2 56 = .ok (.putfield 9, 3) := sorry
theorem dJ3_grow_2_59 : decode cJ3_grow_2 59 = .ok (.areturn, 1) := sorry
theorem q89 : (Jvm.Cond.initialized "java/util/ArrayList") ∈ lw_all := sorry
theorem q166 : (Jvm.Cond.instantiable "java/util/ArrayList" (3 : Nat)) ∈ lw_all := sorry
theorem q168 : (Jvm.Cond.instanceMethod ({ cls := "java/util/ArrayList", name := "<init>", desc := "(I)V" } : Jvm.MethodName)) ∈ lw_all := sorry
theorem q169 : (Jvm.Cond.code ({ cls := "java/util/ArrayList", name := "<init>", desc := "(I)V" } : Jvm.MethodName) prog_48_method_1_code (2 : Nat) (Option.none : Option Jvm.ClassFile.FieldType)) ∈ lw_all := sorry
theorem q170 : (Jvm.Cond.methodLink "java/util/ArrayList" (1 : Nat) ({ cls := "java/util/AbstractList", name := "<init>", desc := "()V" } : Jvm.MethodName)) ∈ lw_all := sorry
theorem q174 : (Jvm.Cond.classLink "java/util/ArrayList" (7 : Nat) "java/lang/Object") ∈ lw_all := sorry
theorem q175 : (Jvm.Cond.fieldLink "java/util/ArrayList" (15 : Nat) "java/util/ArrayList" "EMPTY_ELEMENTDATA" "[Ljava/lang/Object;") ∈ lw_all := sorry
theorem q176 : (Jvm.Cond.laysStatic "java/util/ArrayList" "EMPTY_ELEMENTDATA" "[Ljava/lang/Object;") ∈ lw_tbl := sorry
theorem q177 : (Jvm.Cond.classLink "java/util/ArrayList" (18 : Nat) "java/lang/IllegalArgumentException") ∈ lw_all := sorry
theorem q226 : (Jvm.Cond.classLink "java/util/ArrayList" (20 : Nat) "java/lang/StringBuilder") ∈ lw_all := sorry
theorem q228 : (Jvm.Cond.methodLink "java/util/ArrayList" (22 : Nat) ({ cls := "java/lang/StringBuilder", name := "<init>", desc := "()V" } : Jvm.MethodName)) ∈ lw_all := sorry
theorem q258 : (Jvm.Cond.stringRef "java/util/ArrayList" (23 : Nat) "Illegal Capacity: ") ∈ lw_tbl := sorry
theorem q259 : (Jvm.Cond.methodLink "java/util/ArrayList" (25 : Nat) ({ cls := "java/lang/StringBuilder", name := "append", desc := "(Ljava/lang/String;)Ljava/lang/StringBuilder;" } : Jvm.MethodName)) ∈ lw_all := sorry
theorem q379 : (Jvm.Cond.methodLink "java/util/ArrayList" (29 : Nat) ({ cls := "java/lang/StringBuilder", name := "append", desc := "(I)Ljava/lang/StringBuilder;" } : Jvm.MethodName)) ∈ lw_all := sorry
theorem q404 : (Jvm.Cond.methodLink "java/util/ArrayList" (32 : Nat) ({ cls := "java/lang/StringBuilder", name := "toString", desc := "()Ljava/lang/String;" } : Jvm.MethodName)) ∈ lw_all := sorry
theorem q498 : (Jvm.Cond.methodLink "java/util/ArrayList" (36 : Nat) ({ cls := "java/lang/IllegalArgumentException", name := "<init>", desc := "(Ljava/lang/String;)V" } : Jvm.MethodName)) ∈ lw_all := sorry
theorem q499 : (Jvm.Cond.fieldLink "java/util/ArrayList" (9 : Nat) "java/util/ArrayList" "elementData" "[Ljava/lang/Object;") ∈ lw_all := sorry
theorem q500 : (Jvm.Cond.fieldLink "java/util/ArrayList" (48 : Nat) "java/util/ArrayList" "size" "I") ∈ lw_all := sorry
theorem q502 : (Jvm.Cond.fieldLink "java/util/ArrayList" (63 : Nat) "java/util/ArrayList" "modCount" "I") ∈ lw_all := sorry
theorem q503 : (Jvm.Cond.sameField "java/util/ArrayList" "java/util/AbstractList" "modCount" "I") ∈ lw_all := sorry
theorem q504 : (Jvm.Cond.lays "java/util/ArrayList" "java/util/ArrayList" "elementData" "[Ljava/lang/Object;") ∈ lw_all := sorry
theorem q505 : (Jvm.Cond.soleField "java/util/ArrayList" "elementData") ∈ lw_all := sorry
theorem q506 : (Jvm.Cond.lays "java/util/ArrayList" "java/util/ArrayList" "size" "I") ∈ lw_all := sorry
theorem q507 : (Jvm.Cond.soleField "java/util/ArrayList" "size") ∈ lw_all := sorry
theorem q508 : (Jvm.Cond.lays "java/util/ArrayList" "java/util/AbstractList" "modCount" "I") ∈ lw_all := sorry
theorem q510 : (Jvm.Cond.superclass "java/util/ArrayList" "java/util/AbstractList") ∈ lw_all := sorry
theorem q702 : (Jvm.Cond.instanceMethod ({ cls := "java/util/ArrayList", name := "size", desc := "()I" } : Jvm.MethodName)) ∈ lw_all := sorry
theorem q703 : (Jvm.Cond.selects "java/util/ArrayList" ({ cls := "java/util/ArrayList", name := "size", desc := "()I" } : Jvm.MethodName) ({ cls := "java/util/ArrayList", name := "size", desc := "()I" } : Jvm.MethodName)) ∈ lw_all := sorry
theorem q704 : (Jvm.Cond.code ({ cls := "java/util/ArrayList", name := "size", desc := "()I" } : Jvm.MethodName) prog_48_method_8_code (1 : Nat) (Option.some Jvm.ClassFile.FieldType.int)) ∈ lw_all := sorry
theorem q706 : (Jvm.Cond.instanceMethod ({ cls := "java/util/ArrayList", name := "get", desc := "(I)Ljava/lang/Object;" } : Jvm.MethodName)) ∈ lw_all := sorry
theorem q707 : (Jvm.Cond.selects "java/util/ArrayList" ({ cls := "java/util/ArrayList", name := "get", desc := "(I)Ljava/lang/Object;" } : Jvm.MethodName) ({ cls := "java/util/ArrayList", name := "get", desc := "(I)Ljava/lang/Object;" } : Jvm.MethodName)) ∈ lw_all := sorry
theorem q708 : (Jvm.Cond.code ({ cls := "java/util/ArrayList", name := "get", desc := "(I)Ljava/lang/Object;" } : Jvm.MethodName) prog_48_method_20_code (2 : Nat) (Option.some (Jvm.ClassFile.FieldType.object "java/lang/Object"))) ∈ lw_all := sorry
theorem q709 : (Jvm.Cond.methodLink "java/util/ArrayList" (118 : Nat) ({ cls := "java/util/Objects", name := "checkIndex", desc := "(II)I" } : Jvm.MethodName)) ∈ lw_all := sorry
theorem q715 : (Jvm.Cond.methodLink "java/util/ArrayList" (123 : Nat) ({ cls := "java/util/ArrayList", name := "elementData", desc := "(I)Ljava/lang/Object;" } : Jvm.MethodName)) ∈ lw_all := sorry
theorem q716 : (Jvm.Cond.instanceMethod ({ cls := "java/util/ArrayList", name := "elementData", desc := "(I)Ljava/lang/Object;" } : Jvm.MethodName)) ∈ lw_all := sorry
theorem q717 : (Jvm.Cond.selects "java/util/ArrayList" ({ cls := "java/util/ArrayList", name := "elementData", desc := "(I)Ljava/lang/Object;" } : Jvm.MethodName) ({ cls := "java/util/ArrayList", name := "elementData", desc := "(I)Ljava/lang/Object;" } : Jvm.MethodName)) ∈ lw_all := sorry
theorem q718 : (Jvm.Cond.code ({ cls := "java/util/ArrayList", name := "elementData", desc := "(I)Ljava/lang/Object;" } : Jvm.MethodName) prog_48_method_18_code (2 : Nat) (Option.some (Jvm.ClassFile.FieldType.object "java/lang/Object"))) ∈ lw_all := sorry
theorem q1262 : (Jvm.Cond.instanceMethod ({ cls := "java/util/ArrayList", name := "add", desc := "(Ljava/lang/Object;)Z" } : Jvm.MethodName)) ∈ lw_all := sorry
theorem q1263 : (Jvm.Cond.selects "java/util/ArrayList" ({ cls := "java/util/ArrayList", name := "add", desc := "(Ljava/lang/Object;)Z" } : Jvm.MethodName) ({ cls := "java/util/ArrayList", name := "add", desc := "(Ljava/lang/Object;)Z" } : Jvm.MethodName)) ∈ lw_all := sorry
theorem q1264 : (Jvm.Cond.code ({ cls := "java/util/ArrayList", name := "add", desc := "(Ljava/lang/Object;)Z" } : Jvm.MethodName) prog_48_method_25_code (2 : Nat) (Option.some Jvm.ClassFile.FieldType.boolean)) ∈ lw_all := sorry
theorem q1265 : (Jvm.Cond.methodLink "java/util/ArrayList" (131 : Nat) ({ cls := "java/util/ArrayList", name := "add", desc := "(Ljava/lang/Object;[Ljava/lang/Object;I)V" } : Jvm.MethodName)) ∈ lw_all := sorry
theorem q1266 : (Jvm.Cond.privateMethod ({ cls := "java/util/ArrayList", name := "add", desc := "(Ljava/lang/Object;[Ljava/lang/Object;I)V" } : Jvm.MethodName)) ∈ lw_tbl := sorry
theorem q1267 : (Jvm.Cond.instanceMethod ({ cls := "java/util/ArrayList", name := "add", desc := "(Ljava/lang/Object;[Ljava/lang/Object;I)V" } : Jvm.MethodName)) ∈ lw_all := sorry
theorem q1268 : (Jvm.Cond.code ({ cls := "java/util/ArrayList", name := "add", desc := "(Ljava/lang/Object;[Ljava/lang/Object;I)V" } : Jvm.MethodName) prog_48_method_24_code (4 : Nat) (Option.none : Option Jvm.ClassFile.FieldType)) ∈ lw_all := sorry
theorem q1269 : (Jvm.Cond.methodLink "java/util/ArrayList" (129 : Nat) ({ cls := "java/util/ArrayList", name := "grow", desc := "()[Ljava/lang/Object;" } : Jvm.MethodName)) ∈ lw_all := sorry
theorem q1270 : (Jvm.Cond.privateMethod ({ cls := "java/util/ArrayList", name := "grow", desc := "()[Ljava/lang/Object;" } : Jvm.MethodName)) ∈ lw_tbl := sorry
theorem q1271 : (Jvm.Cond.instanceMethod ({ cls := "java/util/ArrayList", name := "grow", desc := "()[Ljava/lang/Object;" } : Jvm.MethodName)) ∈ lw_all := sorry
theorem q1272 : (Jvm.Cond.code ({ cls := "java/util/ArrayList", name := "grow", desc := "()[Ljava/lang/Object;" } : Jvm.MethodName) prog_48_method_7_code (1 : Nat) (Option.some (Jvm.ClassFile.FieldType.array (Jvm.ClassFile.FieldType.object "java/lang/Object")))) ∈ lw_all := sorry
theorem q1273 : (Jvm.Cond.methodLink "java/util/ArrayList" (69 : Nat) ({ cls := "java/util/ArrayList", name := "grow", desc := "(I)[Ljava/lang/Object;" } : Jvm.MethodName)) ∈ lw_all := sorry
theorem q1274 : (Jvm.Cond.privateMethod ({ cls := "java/util/ArrayList", name := "grow", desc := "(I)[Ljava/lang/Object;" } : Jvm.MethodName)) ∈ lw_tbl := sorry
theorem q1275 : (Jvm.Cond.instanceMethod ({ cls := "java/util/ArrayList", name := "grow", desc := "(I)[Ljava/lang/Object;" } : Jvm.MethodName)) ∈ lw_all := sorry
theorem q1276 : (Jvm.Cond.code ({ cls := "java/util/ArrayList", name := "grow", desc := "(I)[Ljava/lang/Object;" } : Jvm.MethodName) prog_48_method_6_code (4 : Nat) (Option.some (Jvm.ClassFile.FieldType.array (Jvm.ClassFile.FieldType.object "java/lang/Object")))) ∈ lw_all := sorry
theorem q1277 : (Jvm.Cond.fieldLink "java/util/ArrayList" (39 : Nat) "java/util/ArrayList" "DEFAULTCAPACITY_EMPTY_ELEMENTDATA" "[Ljava/lang/Object;") ∈ lw_all := sorry
theorem q1278 : (Jvm.Cond.laysStatic "java/util/ArrayList" "DEFAULTCAPACITY_EMPTY_ELEMENTDATA" "[Ljava/lang/Object;") ∈ lw_tbl := sorry
theorem q1279 : (Jvm.Cond.methodLink "java/util/ArrayList" (73 : Nat) ({ cls := "jdk/internal/util/ArraysSupport", name := "newLength", desc := "(III)I" } : Jvm.MethodName)) ∈ lw_all := sorry
theorem q1280 : (Jvm.Cond.methodLink "java/util/ArrayList" (66 : Nat) ({ cls := "java/util/Arrays", name := "copyOf", desc := "([Ljava/lang/Object;I)[Ljava/lang/Object;" } : Jvm.MethodName)) ∈ lw_all := sorry
theorem q1311 : (Jvm.Cond.selects "java/util/ArrayList" ({ cls := "java/lang/Object", name := "getClass", desc := "()Ljava/lang/Class;" } : Jvm.MethodName) ({ cls := "java/lang/Object", name := "getClass", desc := "()Ljava/lang/Class;" } : Jvm.MethodName)) ∈ lw_all := sorry
theorem q1319 : (Jvm.Cond.methodLink "java/util/ArrayList" (79 : Nat) ({ cls := "java/lang/Math", name := "max", desc := "(II)I" } : Jvm.MethodName)) ∈ lw_all := sorry
theorem q2640 : (Jvm.Cond.castable "java/util/ArrayList" "java/lang/Object") ∈ lw_tbl := sorry
theorem in_J3 : ∀ w ∈ wsJ30, w ∈ lw_all := sorry
/-! java/lang/Throwable -/
set_option maxRecDepth 100000
def RJ4 : String := "java/lang/Throwable"
def TJ4 : u_T := fun k => match k with
  | 0 => ("java/lang/Throwable", "cause", "Ljava/lang/Throwable;", false)
  | 1 => ("java/lang/Throwable", "stackTrace", "[Ljava/lang/StackTraceElement;", false)
  | 2 => ("java/lang/Throwable", "suppressedExceptions", "Ljava/util/List;", false)
  | 3 => ("java/lang/Throwable", "detailMessage", "Ljava/lang/String;", false)
  | _ => ("java/lang/Throwable", "backtrace", "Ljava/lang/Object;", false)
def tyJ4 : Nat → FieldType := fun k => match k with
  | 0 => .object "java/lang/Throwable"
  | 1 => .array (.object "java/lang/StackTraceElement")
  | 2 => .object "java/util/List"
  | 3 => .object "java/lang/String"
  | _ => .object "java/lang/Object"
abbrev wsJ40 : List Cond := u_ws RJ4 TJ4 5
theorem nmJ4 : ∀ a, a < 5 → ∀ b, b < 5 → a ≠ b → (TJ4 a).2.1 ≠ (TJ4 b).2.1 := sorry
theorem tyJ4_ok : ∀ k, k < 5 → parseFieldDescriptor (TJ4 k).2.2.1 = some (tyJ4 k) := sorry
abbrev cJ4_init : ByteArray := prog_41_method_1_code
def yJ4_init : MethodName := ⟨RJ4, "<init>", "()V"⟩
def dkwJ4_init_1 : List UInt8 := [182, 0, 27, 87, 177]
abbrev dktJ4_init_1 : List UInt8 := dkwJ4_init_1 ++ []
def dkwJ4_init_0 : List UInt8 := [42, 183, 0, 1, 42, 42, 181, 0, 7, 42, 178, 0, 13, 181, 0, 17, 42, 178, 0, 20, 181, 0, 24, 42]
abbrev dktJ4_init_0 : List UInt8 := dkwJ4_init_0 ++ dktJ4_init_1
theorem dksJ4_init_0 : cJ4_init.data.toList.drop 0 = dktJ4_init_0 := sorry
theorem dksJ4_init_1 : cJ4_init.data.toList.drop 24 = dktJ4_init_1 := sorry
theorem dJ4_init_0 : decode cJ4_init 0 = .ok (.aload_n 0, 1) := sorry
theorem dJ4_init_1 : decode cJ4_init 1 = .ok (.invokespecial 1, 3) := sorry
theorem dJ4_init_4 : decode cJ4_init 4 = .ok (.aload_n 0, 1) := sorry
theorem dJ4_init_5 : decode cJ4_init 5 = .ok (.aload_n 0, 1) := sorry
theorem dJ4_init_6 : decode cJ4_init 6 = .ok (.putfield 7, 3) := sorry
theorem dJ4_init_9 : decode cJ4_init 9 = .ok (.aload_n 0, 1) := sorry
theorem dJ4_init_10 : decode cJ4_init 10 = .ok (.getstatic 13, 3) := sorry
theorem dJ4_init_13 : decode cJ4_init 13 = .ok (.putfield 17, 3) := sorry
theorem dJ4_init_16 : decode cJ4_init 16 = .ok (.aload_n 0, 1) := sorry
theorem dJ4_init_17 : decode cJ4_init 17 = .ok (.getstatic 20, 3) := sorry
theorem dJ4_init_20 : decode cJ4_init 20 = .ok (.putfield 24, 3) := sorry
theorem dJ4_init_23 : decode cJ4_init 23 = .ok (.aload_n 0, 1) := sorry
theorem dJ4_init_24 : decode cJ4_init 24 = .ok (.invokevirtual 27, 3) := sorry
theorem dJ4_init_27 : decode cJ4_init 27 = .ok (.pop, 1) := sorry
theorem dJ4_init_28 : decode cJ4_init 28 = .ok (.return_, 1) := sorry
abbrev cJ4_init_2 : ByteArray := prog_41_method_2_code
def yJ4_init_2 : MethodName := ⟨RJ4, "<init>", "(Ljava/lang/String;)V"⟩
def dkwJ4_init_2_1 : List UInt8 := [182, 0, 27, 87, 42, 43, 181, 0, 31, 177]
abbrev dktJ4_init_2_1 : List UInt8 := dkwJ4_init_2_1 ++ []
def dkwJ4_init_2_0 : List UInt8 := [42, 183, 0, 1, 42, 42, 181, 0, 7, 42, 178, 0, 13, 181, 0, 17, 42, 178, 0, 20, 181, 0, 24, 42]
abbrev dktJ4_init_2_0 : List UInt8 := dkwJ4_init_2_0 ++ dktJ4_init_2_1
theorem dksJ4_init_2_0 : cJ4_init_2.data.toList.drop 0 = dktJ4_init_2_0 := sorry
theorem dksJ4_init_2_1 : cJ4_init_2.data.toList.drop 24 = dktJ4_init_2_1 := sorry
theorem dJ4_init_2_0 : decode cJ4_init_2 0 = .ok (.aload_n 0, 1) := sorry
theorem dJ4_init_2_1 : decode cJ4_init_2 1 = .ok (.invokespecial 1, 3) := sorry
theorem dJ4_init_2_4 : decode cJ4_init_2 4 = .ok (.aload_n 0, 1) := sorry
theorem dJ4_init_2_5 : decode cJ4_init_2 5 = .ok (.aload_n 0, 1) := sorry
theorem dJ4_init_2_6 : decode cJ4_init_2 6 = .ok (.putfield 7, 3) := sorry
theorem dJ4_init_2_9 : decode cJ4_init_2 9 = .ok (.aload_n 0, 1) := sorry
theorem dJ4_init_2_10 : decode cJ4_init_2 10 = .ok (.getstatic 13, 3) := sorry
theorem dJ4_init_2_13 : decode cJ4_init_2 13 = .ok (.putfield 17, 3) := sorry
theorem dJ4_init_2_16 : decode cJ4_init_2 16 = .ok (.aload_n 0, 1) := sorry
theorem dJ4_init_2_17 : decode cJ4_init_2 17 = .ok (.getstatic 20, 3) := sorry
theorem dJ4_init_2_20 : decode cJ4_init_2 20 = .ok (.putfield 24, 3) := sorry
theorem dJ4_init_2_23 : decode cJ4_init_2 23 = .ok (.aload_n 0, 1) := sorry
theorem dJ4_init_2_24 : decode cJ4_init_2 24 = .ok (.invokevirtual 27, 3) := sorry
theorem dJ4_init_2_27 : decode cJ4_init_2 27 = .ok (.pop, 1) := sorry
theorem dJ4_init_2_28 : decode cJ4_init_2 28 = .ok (.aload_n 0, 1) := sorry
theorem dJ4_init_2_29 : decode cJ4_init_2 29 = .ok (.aload_n 1, 1) := sorry
theorem dJ4_init_2_30 : decode cJ4_init_2 30 = .ok (.putfield 31, 3) := sorry
theorem dJ4_init_2_33 : decode cJ4_init_2 33 = .ok (.return_, 1) := sorry
abbrev cJ4_init_3 : ByteArray := prog_41_method_5_code
def yJ4_init_3 : MethodName := ⟨RJ4, "<init>", "(Ljava/lang/String;Ljava/lang/Throwable;ZZ)V"⟩
def dkwJ4_init_3_2 : List UInt8 := [44, 181, 0, 7, 29, 154, 0, 8, 42, 1, 181, 0, 24, 177]
abbrev dktJ4_init_3_2 : List UInt8 := dkwJ4_init_3_2 ++ []
def dkwJ4_init_3_1 : List UInt8 := [21, 4, 153, 0, 11, 42, 182, 0, 27, 87, 167, 0, 8, 42, 1, 181, 0, 17, 42, 43, 181, 0, 31, 42]
abbrev dktJ4_init_3_1 : List UInt8 := dkwJ4_init_3_1 ++ dktJ4_init_3_2
def dkwJ4_init_3_0 : List UInt8 := [42, 183, 0, 1, 42, 42, 181, 0, 7, 42, 178, 0, 13, 181, 0, 17, 42, 178, 0, 20, 181, 0, 24]
abbrev dktJ4_init_3_0 : List UInt8 := dkwJ4_init_3_0 ++ dktJ4_init_3_1
theorem dksJ4_init_3_0 : cJ4_init_3.data.toList.drop 0 = dktJ4_init_3_0 := sorry
theorem dksJ4_init_3_1 : cJ4_init_3.data.toList.drop 23 = dktJ4_init_3_1 := sorry
theorem dksJ4_init_3_2 : cJ4_init_3.data.toList.drop 47 = dktJ4_init_3_2 := sorry
theorem dJ4_init_3_0 : decode cJ4_init_3 0 = .ok (.aload_n 0, 1) := sorry
theorem dJ4_init_3_1 : decode cJ4_init_3 1 = .ok (.invokespecial 1, 3) := sorry
theorem dJ4_init_3_4 : decode cJ4_init_3 4 = .ok (.aload_n 0, 1) := sorry
theorem dJ4_init_3_5 : decode cJ4_init_3 5 = .ok (.aload_n 0, 1) := sorry
theorem dJ4_init_3_6 : decode cJ4_init_3 6 = .ok (.putfield 7, 3) := sorry
theorem dJ4_init_3_9 : decode cJ4_init_3 9 = .ok (.aload_n 0, 1) := sorry
theorem dJ4_init_3_10 : decode cJ4_init_3 10 = .ok (.getstatic 13, 3) := sorry
theorem dJ4_init_3_13 : decode cJ4_init_3 13 = .ok (.putfield 17, 3) := sorry
theorem dJ4_init_3_16 : decode cJ4_init_3 16 = .ok (.aload_n 0, 1) := sorry
theorem dJ4_init_3_17 : decode cJ4_init_3 17 = .ok (.getstatic 20, 3) := sorry
theorem dJ4_init_3_20 : decode cJ4_init_3 20 = .ok (.putfield 24, 3) := sorry
theorem dJ4_init_3_23 : decode cJ4_init_3 23 = .ok (.iload 4, 2) := sorry
theorem dJ4_init_3_25 : decode cJ4_init_3 25 = .ok (.ifCond .eq 11, 3) := sorry
theorem dJ4_init_3_28 : decode cJ4_init_3 28 = .ok (.aload_n 0, 1) := sorry
theorem dJ4_init_3_29 : decode cJ4_init_3 29 = .ok (.invokevirtual 27, 3) := sorry
theorem dJ4_init_3_32 : decode cJ4_init_3 32 = .ok (.pop, 1) := sorry
theorem dJ4_init_3_33 : decode cJ4_init_3 33 = .ok (.goto 8, 3) := sorry
theorem dJ4_init_3_36 : decode cJ4_init_3 36 = .ok (.aload_n 0, 1) := sorry
theorem dJ4_init_3_37 : decode cJ4_init_3 37 = .ok (.aconst_null, 1) := sorry
theorem dJ4_init_3_38 : decode cJ4_init_3 38 = .ok (.putfield 17, 3) := sorry
theorem dJ4_init_3_41 : decode cJ4_init_3 41 = .ok (.aload_n 0, 1) := sorry
theorem dJ4_init_3_42 : decode cJ4_init_3 42 = .ok (.aload_n 1, 1) := sorry
theorem dJ4_init_3_43 : decode cJ4_init_3 43 = .ok (.putfield 31, 3) := sorry
theorem dJ4_init_3_46 : decode cJ4_init_3 46 = .ok (.aload_n 0, 1) := sorry
theorem dJ4_init_3_47 : decode cJ4_init_3 47 = .ok (.aload_n 2, 1) := sorry
theorem dJ4_init_3_48 : decode cJ4_init_3 48 = .ok (.putfield 7, 3) := sorry
theorem dJ4_init_3_51 : decode cJ4_init_3 51 = .ok (.iload_n 3, 1) := sorry
theorem dJ4_init_3_52 : decode cJ4_init_3 52 = .ok (.ifCond .ne 8, 3) := sorry
theorem dJ4_init_3_55 : decode cJ4_init_3 55 = .ok (.aload_n 0, 1) := sorry
theorem dJ4_init_3_56 : decode cJ4_init_3 56 = .ok (.aconst_null, 1) := sorry
theorem dJ4_init_3_57 : decode cJ4_init_3 57 = .ok (.putfield 24, 3) := sorry
theorem dJ4_init_3_60 : decode cJ4_init_3 60 = .ok (.return_, 1) := sorry
theorem q90 : (Jvm.Cond.initialized "java/lang/Throwable") ∈ lw_all := sorry
theorem q184 : (Jvm.Cond.declares ({ cls := "java/lang/Throwable", name := "<init>", desc := "()V" } : Jvm.MethodName)) ∈ lw_tbl := sorry
theorem q185 : (Jvm.Cond.declares ({ cls := "java/lang/Throwable", name := "<init>", desc := "(Ljava/lang/String;)V" } : Jvm.MethodName)) ∈ lw_tbl := sorry
theorem q189 : (Jvm.Cond.lays "java/lang/Throwable" "java/lang/Throwable" "cause" "Ljava/lang/Throwable;") ∈ lw_all := sorry
theorem q191 : (Jvm.Cond.lays "java/lang/Throwable" "java/lang/Throwable" "stackTrace" "[Ljava/lang/StackTraceElement;") ∈ lw_all := sorry
theorem q193 : (Jvm.Cond.lays "java/lang/Throwable" "java/lang/Throwable" "suppressedExceptions" "Ljava/util/List;") ∈ lw_all := sorry
theorem q195 : (Jvm.Cond.lays "java/lang/Throwable" "java/lang/Throwable" "detailMessage" "Ljava/lang/String;") ∈ lw_all := sorry
theorem q197 : (Jvm.Cond.lays "java/lang/Throwable" "java/lang/Throwable" "backtrace" "Ljava/lang/Object;") ∈ lw_all := sorry
theorem q198 : (Jvm.Cond.fieldLink "java/lang/Throwable" (198 : Nat) "java/lang/Throwable" "backtrace" "Ljava/lang/Object;") ∈ lw_all := sorry
theorem q199 : (Jvm.Cond.superclass "java/lang/Throwable" "java/lang/Object") ∈ lw_all := sorry
theorem q200 : (Jvm.Cond.instanceMethod ({ cls := "java/lang/Throwable", name := "<init>", desc := "()V" } : Jvm.MethodName)) ∈ lw_all := sorry
theorem q201 : (Jvm.Cond.code ({ cls := "java/lang/Throwable", name := "<init>", desc := "()V" } : Jvm.MethodName) prog_41_method_1_code (1 : Nat) (Option.none : Option Jvm.ClassFile.FieldType)) ∈ lw_all := sorry
theorem q202 : (Jvm.Cond.methodLink "java/lang/Throwable" (1 : Nat) ({ cls := "java/lang/Object", name := "<init>", desc := "()V" } : Jvm.MethodName)) ∈ lw_all := sorry
theorem q203 : (Jvm.Cond.fieldLink "java/lang/Throwable" (13 : Nat) "java/lang/Throwable" "UNASSIGNED_STACK" "[Ljava/lang/StackTraceElement;") ∈ lw_all := sorry
theorem q204 : (Jvm.Cond.laysStatic "java/lang/Throwable" "UNASSIGNED_STACK" "[Ljava/lang/StackTraceElement;") ∈ lw_tbl := sorry
theorem q205 : (Jvm.Cond.fieldLink "java/lang/Throwable" (20 : Nat) "java/lang/Throwable" "SUPPRESSED_SENTINEL" "Ljava/util/List;") ∈ lw_all := sorry
theorem q206 : (Jvm.Cond.laysStatic "java/lang/Throwable" "SUPPRESSED_SENTINEL" "Ljava/util/List;") ∈ lw_tbl := sorry
theorem q207 : (Jvm.Cond.methodLink "java/lang/Throwable" (27 : Nat) ({ cls := "java/lang/Throwable", name := "fillInStackTrace", desc := "()Ljava/lang/Throwable;" } : Jvm.MethodName)) ∈ lw_all := sorry
theorem q208 : (Jvm.Cond.instanceMethod ({ cls := "java/lang/Throwable", name := "fillInStackTrace", desc := "()Ljava/lang/Throwable;" } : Jvm.MethodName)) ∈ lw_all := sorry
theorem q209 : (Jvm.Cond.sameMethod "java/lang/Throwable" "java/lang/Throwable" "fillInStackTrace" "()Ljava/lang/Throwable;") ∈ lw_all := sorry
theorem q220 : (Jvm.Cond.codeSync ({ cls := "java/lang/Throwable", name := "fillInStackTrace", desc := "()Ljava/lang/Throwable;" } : Jvm.MethodName) prog_41_method_18_code (1 : Nat) (Option.some (Jvm.ClassFile.FieldType.object "java/lang/Throwable"))) ∈ lw_all := sorry
theorem q221 : (Jvm.Cond.methodLink "java/lang/Throwable" (202 : Nat) ({ cls := "java/lang/Throwable", name := "fillInStackTrace", desc := "(I)Ljava/lang/Throwable;" } : Jvm.MethodName)) ∈ lw_all := sorry
theorem q222 : (Jvm.Cond.privateMethod ({ cls := "java/lang/Throwable", name := "fillInStackTrace", desc := "(I)Ljava/lang/Throwable;" } : Jvm.MethodName)) ∈ lw_tbl := sorry
theorem q223 : (Jvm.Cond.instanceMethod ({ cls := "java/lang/Throwable", name := "fillInStackTrace", desc := "(I)Ljava/lang/Throwable;" } : Jvm.MethodName)) ∈ lw_all := sorry
theorem q224 : (Jvm.Cond.instantiable "java/lang/Throwable" (6 : Nat)) ∈ lw_all := sorry
theorem q225 : (Jvm.Cond.native ({ cls := "java/lang/Throwable", name := "fillInStackTrace", desc := "(I)Ljava/lang/Throwable;" } : Jvm.MethodName)) ∈ lw_all := sorry
theorem q457 : (Jvm.Cond.instanceMethod ({ cls := "java/lang/Throwable", name := "<init>", desc := "(Ljava/lang/String;)V" } : Jvm.MethodName)) ∈ lw_all := sorry
theorem q458 : (Jvm.Cond.code ({ cls := "java/lang/Throwable", name := "<init>", desc := "(Ljava/lang/String;)V" } : Jvm.MethodName) prog_41_method_2_code (2 : Nat) (Option.none : Option Jvm.ClassFile.FieldType)) ∈ lw_all := sorry
theorem q459 : (Jvm.Cond.fieldLink "java/lang/Throwable" (198 : Nat) "java/lang/Throwable" "backtrace" "Ljava/lang/Object;") ∈ lw_all := sorry
theorem q460 : (Jvm.Cond.fieldLink "java/lang/Throwable" (31 : Nat) "java/lang/Throwable" "detailMessage" "Ljava/lang/String;") ∈ lw_all := sorry
theorem q461 : (Jvm.Cond.fieldLink "java/lang/Throwable" (7 : Nat) "java/lang/Throwable" "cause" "Ljava/lang/Throwable;") ∈ lw_all := sorry
theorem q462 : (Jvm.Cond.fieldLink "java/lang/Throwable" (17 : Nat) "java/lang/Throwable" "stackTrace" "[Ljava/lang/StackTraceElement;") ∈ lw_all := sorry
theorem q463 : (Jvm.Cond.fieldLink "java/lang/Throwable" (24 : Nat) "java/lang/Throwable" "suppressedExceptions" "Ljava/util/List;") ∈ lw_all := sorry
theorem q464 : (Jvm.Cond.soleField "java/lang/Throwable" "backtrace") ∈ lw_all := sorry
theorem q465 : (Jvm.Cond.soleField "java/lang/Throwable" "detailMessage") ∈ lw_all := sorry
theorem q466 : (Jvm.Cond.soleField "java/lang/Throwable" "cause") ∈ lw_all := sorry
theorem q467 : (Jvm.Cond.soleField "java/lang/Throwable" "stackTrace") ∈ lw_all := sorry
theorem q469 : (Jvm.Cond.soleField "java/lang/Throwable" "depth") ∈ lw_all := sorry
theorem q470 : (Jvm.Cond.soleField "java/lang/Throwable" "suppressedExceptions") ∈ lw_all := sorry
theorem q1187 : (Jvm.Cond.instanceMethod ({ cls := "java/lang/Throwable", name := "<init>", desc := "(Ljava/lang/String;Ljava/lang/Throwable;ZZ)V" } : Jvm.MethodName)) ∈ lw_all := sorry
theorem q1188 : (Jvm.Cond.code ({ cls := "java/lang/Throwable", name := "<init>", desc := "(Ljava/lang/String;Ljava/lang/Throwable;ZZ)V" } : Jvm.MethodName) prog_41_method_5_code (5 : Nat) (Option.none : Option Jvm.ClassFile.FieldType)) ∈ lw_all := sorry
theorem q1863 : (Jvm.Cond.declares ({ cls := "java/lang/Throwable", name := "getCause", desc := "()Ljava/lang/Throwable;" } : Jvm.MethodName)) ∈ lw_tbl := sorry
theorem q1868 : (Jvm.Cond.instanceMethod ({ cls := "java/lang/Throwable", name := "getCause", desc := "()Ljava/lang/Throwable;" } : Jvm.MethodName)) ∈ lw_all := sorry
theorem q1869 : (Jvm.Cond.codeSync ({ cls := "java/lang/Throwable", name := "getCause", desc := "()Ljava/lang/Throwable;" } : Jvm.MethodName) prog_41_method_8_code (1 : Nat) (Option.some (Jvm.ClassFile.FieldType.object "java/lang/Throwable"))) ∈ lw_all := sorry
theorem q2618 : (Jvm.Cond.sameMethod "java/lang/Throwable" "java/lang/Throwable" "fillInStackTrace" "(I)Ljava/lang/Throwable;") ∈ lw_all := sorry
theorem q2664 : (Jvm.Cond.castable "java/lang/Throwable" "java/lang/Object") ∈ lw_tbl := sorry
theorem in_J4 : ∀ w ∈ wsJ40, w ∈ lw_all := sorry
/-! java/lang/Exception -/
set_option maxRecDepth 100000
def RJ5 : String := "java/lang/Exception"
abbrev cJ5_init : ByteArray := prog_24_method_2_code
def yJ5_init : MethodName := ⟨RJ5, "<init>", "(Ljava/lang/String;)V"⟩
def dkwJ5_init_0 : List UInt8 := [42, 43, 183, 0, 7, 177]
abbrev dktJ5_init_0 : List UInt8 := dkwJ5_init_0 ++ []
theorem dksJ5_init_0 : cJ5_init.data.toList.drop 0 = dktJ5_init_0 := sorry
theorem dJ5_init_0 : decode cJ5_init 0 = .ok (.aload_n 0, 1) := sorry
theorem dJ5_init_1 : decode cJ5_init 1 = .ok (.aload_n 1, 1) := sorry
theorem dJ5_init_2 : decode cJ5_init 2 = .ok (.invokespecial 7, 3) := sorry
theorem dJ5_init_5 : decode cJ5_init 5 = .ok (.return_, 1) := sorry
abbrev cJ5_init_2 : ByteArray := prog_24_method_1_code
def yJ5_init_2 : MethodName := ⟨RJ5, "<init>", "()V"⟩
theorem dJ5_init_2_0 : decode cJ5_init_2 0 = .ok (.aload_n 0, 1) := sorry
theorem dJ5_init_2_1 : decode cJ5_init_2 1 = .ok (.invokespecial 1, 3) := sorry
theorem dJ5_init_2_4 : decode cJ5_init_2 4 = .ok (.return_, 1) := sorry
abbrev cJ5_init_3 : ByteArray := prog_24_method_5_code
def yJ5_init_3 : MethodName := ⟨RJ5, "<init>", "(Ljava/lang/String;Ljava/lang/Throwable;ZZ)V"⟩
def dkwJ5_init_3_0 : List UInt8 := [42, 43, 44, 29, 21, 4, 183, 0, 16, 177]
abbrev dktJ5_init_3_0 : List UInt8 := dkwJ5_init_3_0 ++ []
theorem dksJ5_init_3_0 : cJ5_init_3.data.toList.drop 0 = dktJ5_init_3_0 := sorry
theorem dJ5_init_3_0 : decode cJ5_init_3 0 = .ok (.aload_n 0, 1) := sorry
theorem dJ5_init_3_1 : decode cJ5_init_3 1 = .ok (.aload_n 1, 1) := sorry
theorem dJ5_init_3_2 : decode cJ5_init_3 2 = .ok (.aload_n 2, 1) := sorry
theorem dJ5_init_3_3 : decode cJ5_init_3 3 = .ok (.iload_n 3, 1) := sorry
theorem dJ5_init_3_4 : decode cJ5_init_3 4 = .ok (.iload 4, 2) := sorry
theorem dJ5_init_3_6 : decode cJ5_init_3 6 = .ok (.invokespecial 16, 3) := sorry
theorem dJ5_init_3_9 : decode cJ5_init_3 9 = .ok (.return_, 1) := sorry
theorem q91 : (Jvm.Cond.initialized "java/lang/Exception") ∈ lw_all := sorry
theorem q182 : (Jvm.Cond.declares ({ cls := "java/lang/Exception", name := "<init>", desc := "()V" } : Jvm.MethodName)) ∈ lw_tbl := sorry
theorem q183 : (Jvm.Cond.declares ({ cls := "java/lang/Exception", name := "<init>", desc := "(Ljava/lang/String;)V" } : Jvm.MethodName)) ∈ lw_tbl := sorry
theorem q454 : (Jvm.Cond.instanceMethod ({ cls := "java/lang/Exception", name := "<init>", desc := "(Ljava/lang/String;)V" } : Jvm.MethodName)) ∈ lw_all := sorry
theorem q455 : (Jvm.Cond.code ({ cls := "java/lang/Exception", name := "<init>", desc := "(Ljava/lang/String;)V" } : Jvm.MethodName) prog_24_method_2_code (2 : Nat) (Option.none : Option Jvm.ClassFile.FieldType)) ∈ lw_all := sorry
theorem q456 : (Jvm.Cond.methodLink "java/lang/Exception" (7 : Nat) ({ cls := "java/lang/Throwable", name := "<init>", desc := "(Ljava/lang/String;)V" } : Jvm.MethodName)) ∈ lw_all := sorry
theorem q804 : (Jvm.Cond.instanceMethod ({ cls := "java/lang/Exception", name := "<init>", desc := "()V" } : Jvm.MethodName)) ∈ lw_all := sorry
theorem q805 : (Jvm.Cond.code ({ cls := "java/lang/Exception", name := "<init>", desc := "()V" } : Jvm.MethodName) prog_24_method_1_code (1 : Nat) (Option.none : Option Jvm.ClassFile.FieldType)) ∈ lw_all := sorry
theorem q806 : (Jvm.Cond.methodLink "java/lang/Exception" (1 : Nat) ({ cls := "java/lang/Throwable", name := "<init>", desc := "()V" } : Jvm.MethodName)) ∈ lw_all := sorry
theorem q1184 : (Jvm.Cond.instanceMethod ({ cls := "java/lang/Exception", name := "<init>", desc := "(Ljava/lang/String;Ljava/lang/Throwable;ZZ)V" } : Jvm.MethodName)) ∈ lw_all := sorry
theorem q1185 : (Jvm.Cond.code ({ cls := "java/lang/Exception", name := "<init>", desc := "(Ljava/lang/String;Ljava/lang/Throwable;ZZ)V" } : Jvm.MethodName) prog_24_method_5_code (5 : Nat) (Option.none : Option Jvm.ClassFile.FieldType)) ∈ lw_all := sorry
theorem q1186 : (Jvm.Cond.methodLink "java/lang/Exception" (16 : Nat) ({ cls := "java/lang/Throwable", name := "<init>", desc := "(Ljava/lang/String;Ljava/lang/Throwable;ZZ)V" } : Jvm.MethodName)) ∈ lw_all := sorry
/-! java/lang/RuntimeException -/
set_option maxRecDepth 100000
def RJ6 : String := "java/lang/RuntimeException"
abbrev cJ6_init : ByteArray := prog_33_method_2_code
def yJ6_init : MethodName := ⟨RJ6, "<init>", "(Ljava/lang/String;)V"⟩
def dkwJ6_init_0 : List UInt8 := [42, 43, 183, 0, 7, 177]
abbrev dktJ6_init_0 : List UInt8 := dkwJ6_init_0 ++ []
theorem dksJ6_init_0 : cJ6_init.data.toList.drop 0 = dktJ6_init_0 := sorry
theorem dJ6_init_0 : decode cJ6_init 0 = .ok (.aload_n 0, 1) := sorry
theorem dJ6_init_1 : decode cJ6_init 1 = .ok (.aload_n 1, 1) := sorry
theorem dJ6_init_2 : decode cJ6_init 2 = .ok (.invokespecial 7, 3) := sorry
theorem dJ6_init_5 : decode cJ6_init 5 = .ok (.return_, 1) := sorry
abbrev cJ6_init_2 : ByteArray := prog_33_method_1_code
def yJ6_init_2 : MethodName := ⟨RJ6, "<init>", "()V"⟩
theorem dJ6_init_2_0 : decode cJ6_init_2 0 = .ok (.aload_n 0, 1) := sorry
theorem dJ6_init_2_1 : decode cJ6_init_2 1 = .ok (.invokespecial 1, 3) := sorry
theorem dJ6_init_2_4 : decode cJ6_init_2 4 = .ok (.return_, 1) := sorry
theorem q92 : (Jvm.Cond.initialized "java/lang/RuntimeException") ∈ lw_all := sorry
theorem q180 : (Jvm.Cond.declares ({ cls := "java/lang/RuntimeException", name := "<init>", desc := "()V" } : Jvm.MethodName)) ∈ lw_tbl := sorry
theorem q181 : (Jvm.Cond.declares ({ cls := "java/lang/RuntimeException", name := "<init>", desc := "(Ljava/lang/String;)V" } : Jvm.MethodName)) ∈ lw_tbl := sorry
theorem q451 : (Jvm.Cond.instanceMethod ({ cls := "java/lang/RuntimeException", name := "<init>", desc := "(Ljava/lang/String;)V" } : Jvm.MethodName)) ∈ lw_all := sorry
theorem q452 : (Jvm.Cond.code ({ cls := "java/lang/RuntimeException", name := "<init>", desc := "(Ljava/lang/String;)V" } : Jvm.MethodName) prog_33_method_2_code (2 : Nat) (Option.none : Option Jvm.ClassFile.FieldType)) ∈ lw_all := sorry
theorem q453 : (Jvm.Cond.methodLink "java/lang/RuntimeException" (7 : Nat) ({ cls := "java/lang/Exception", name := "<init>", desc := "(Ljava/lang/String;)V" } : Jvm.MethodName)) ∈ lw_all := sorry
theorem q801 : (Jvm.Cond.instanceMethod ({ cls := "java/lang/RuntimeException", name := "<init>", desc := "()V" } : Jvm.MethodName)) ∈ lw_all := sorry
theorem q802 : (Jvm.Cond.code ({ cls := "java/lang/RuntimeException", name := "<init>", desc := "()V" } : Jvm.MethodName) prog_33_method_1_code (1 : Nat) (Option.none : Option Jvm.ClassFile.FieldType)) ∈ lw_all := sorry
theorem q803 : (Jvm.Cond.methodLink "java/lang/RuntimeException" (1 : Nat) ({ cls := "java/lang/Exception", name := "<init>", desc := "()V" } : Jvm.MethodName)) ∈ lw_all := sorry
/-! java/lang/IllegalArgumentException -/
set_option maxRecDepth 100000
def RJ7 : String := "java/lang/IllegalArgumentException"
def TJ7 : u_T := fun k => match k with
  | 0 => ("java/lang/Throwable", "cause", "Ljava/lang/Throwable;", false)
  | 1 => ("java/lang/Throwable", "stackTrace", "[Ljava/lang/StackTraceElement;", false)
  | 2 => ("java/lang/Throwable", "suppressedExceptions", "Ljava/util/List;", false)
  | 3 => ("java/lang/Throwable", "detailMessage", "Ljava/lang/String;", false)
  | 4 => ("java/lang/Throwable", "backtrace", "Ljava/lang/Object;", false)
  | _ => ("java/lang/Throwable", "depth", "I", false)
def tyJ7 : Nat → FieldType := fun k => match k with
  | 0 => .object "java/lang/Throwable"
  | 1 => .array (.object "java/lang/StackTraceElement")
  | 2 => .object "java/util/List"
  | 3 => .object "java/lang/String"
  | 4 => .object "java/lang/Object"
  | _ => .int
abbrev wsJ70 : List Cond := u_ws RJ7 TJ7 6
theorem nmJ7 : ∀ a, a < 6 → ∀ b, b < 6 → a ≠ b → (TJ7 a).2.1 ≠ (TJ7 b).2.1 := sorry
theorem tyJ7_ok : ∀ k, k < 6 → parseFieldDescriptor (TJ7 k).2.2.1 = some (tyJ7 k) := sorry
abbrev cJ7_init : ByteArray := prog_25_method_2_code
def yJ7_init : MethodName := ⟨RJ7, "<init>", "(Ljava/lang/String;)V"⟩
def dkwJ7_init_0 : List UInt8 := [42, 43, 183, 0, 7, 177]
abbrev dktJ7_init_0 : List UInt8 := dkwJ7_init_0 ++ []
theorem dksJ7_init_0 : cJ7_init.data.toList.drop 0 = dktJ7_init_0 := sorry
theorem dJ7_init_0 : decode cJ7_init 0 = .ok (.aload_n 0, 1) := sorry
theorem dJ7_init_1 : decode cJ7_init 1 = .ok (.aload_n 1, 1) := sorry
theorem dJ7_init_2 : decode cJ7_init 2 = .ok (.invokespecial 7, 3) := sorry
theorem dJ7_init_5 : decode cJ7_init 5 = .ok (.return_, 1) := sorry
abbrev cJ7_init_2 : ByteArray := prog_25_method_1_code
def yJ7_init_2 : MethodName := ⟨RJ7, "<init>", "()V"⟩
theorem dJ7_init_2_0 : decode cJ7_init_2 0 = .ok (.aload_n 0, 1) := sorry
theorem dJ7_init_2_1 : decode cJ7_init_2 1 = .ok (.invokespecial 1, 3) := sorry
theorem dJ7_init_2_4 : decode cJ7_init_2 4 = .ok (.return_, 1) := sorry
theorem q93 : (Jvm.Cond.initialized "java/lang/IllegalArgumentException") ∈ lw_all := sorry
theorem q178 : (Jvm.Cond.instantiable "java/lang/IllegalArgumentException" (6 : Nat)) ∈ lw_all := sorry
theorem q179 : (Jvm.Cond.castable "java/lang/IllegalArgumentException" "java/lang/IllegalArgumentException") ∈ lw_tbl := sorry
theorem q186 : (Jvm.Cond.selects "java/lang/IllegalArgumentException" ({ cls := "java/lang/Throwable", name := "fillInStackTrace", desc := "(I)Ljava/lang/Throwable;" } : Jvm.MethodName) ({ cls := "java/lang/Throwable", name := "fillInStackTrace", desc := "(I)Ljava/lang/Throwable;" } : Jvm.MethodName)) ∈ lw_all := sorry
theorem q187 : (Jvm.Cond.selects "java/lang/IllegalArgumentException" ({ cls := "java/lang/Throwable", name := "fillInStackTrace", desc := "()Ljava/lang/Throwable;" } : Jvm.MethodName) ({ cls := "java/lang/Throwable", name := "fillInStackTrace", desc := "()Ljava/lang/Throwable;" } : Jvm.MethodName)) ∈ lw_all := sorry
theorem q188 : (Jvm.Cond.lays "java/lang/IllegalArgumentException" "java/lang/Throwable" "cause" "Ljava/lang/Throwable;") ∈ lw_all := sorry
theorem q190 : (Jvm.Cond.lays "java/lang/IllegalArgumentException" "java/lang/Throwable" "stackTrace" "[Ljava/lang/StackTraceElement;") ∈ lw_all := sorry
theorem q192 : (Jvm.Cond.lays "java/lang/IllegalArgumentException" "java/lang/Throwable" "suppressedExceptions" "Ljava/util/List;") ∈ lw_all := sorry
theorem q194 : (Jvm.Cond.lays "java/lang/IllegalArgumentException" "java/lang/Throwable" "detailMessage" "Ljava/lang/String;") ∈ lw_all := sorry
theorem q196 : (Jvm.Cond.lays "java/lang/IllegalArgumentException" "java/lang/Throwable" "backtrace" "Ljava/lang/Object;") ∈ lw_all := sorry
theorem q448 : (Jvm.Cond.instanceMethod ({ cls := "java/lang/IllegalArgumentException", name := "<init>", desc := "(Ljava/lang/String;)V" } : Jvm.MethodName)) ∈ lw_all := sorry
theorem q449 : (Jvm.Cond.code ({ cls := "java/lang/IllegalArgumentException", name := "<init>", desc := "(Ljava/lang/String;)V" } : Jvm.MethodName) prog_25_method_2_code (2 : Nat) (Option.none : Option Jvm.ClassFile.FieldType)) ∈ lw_all := sorry
theorem q450 : (Jvm.Cond.methodLink "java/lang/IllegalArgumentException" (7 : Nat) ({ cls := "java/lang/RuntimeException", name := "<init>", desc := "(Ljava/lang/String;)V" } : Jvm.MethodName)) ∈ lw_all := sorry
theorem q468 : (Jvm.Cond.lays "java/lang/IllegalArgumentException" "java/lang/Throwable" "depth" "I") ∈ lw_all := sorry
theorem q471 : (Jvm.Cond.superclass "java/lang/IllegalArgumentException" "java/lang/RuntimeException") ∈ lw_all := sorry
theorem q1301 : (Jvm.Cond.selects "java/lang/IllegalArgumentException" ({ cls := "java/lang/Object", name := "getClass", desc := "()Ljava/lang/Class;" } : Jvm.MethodName) ({ cls := "java/lang/Object", name := "getClass", desc := "()Ljava/lang/Class;" } : Jvm.MethodName)) ∈ lw_all := sorry
theorem q1322 : (Jvm.Cond.instanceMethod ({ cls := "java/lang/IllegalArgumentException", name := "<init>", desc := "()V" } : Jvm.MethodName)) ∈ lw_all := sorry
theorem q1323 : (Jvm.Cond.code ({ cls := "java/lang/IllegalArgumentException", name := "<init>", desc := "()V" } : Jvm.MethodName) prog_25_method_1_code (1 : Nat) (Option.none : Option Jvm.ClassFile.FieldType)) ∈ lw_all := sorry
theorem q1324 : (Jvm.Cond.methodLink "java/lang/IllegalArgumentException" (1 : Nat) ({ cls := "java/lang/RuntimeException", name := "<init>", desc := "()V" } : Jvm.MethodName)) ∈ lw_all := sorry
theorem q2641 : (Jvm.Cond.castable "java/lang/IllegalArgumentException" "java/lang/Object") ∈ lw_tbl := sorry
theorem in_J7 : ∀ w ∈ wsJ70, w ∈ lw_all := sorry
/-! java/lang/AbstractStringBuilder -/
set_option maxRecDepth 100000
def RJ8 : String := "java/lang/AbstractStringBuilder"
abbrev cJ8_init : ByteArray := prog_18_method_2_code
def yJ8_init : MethodName := ⟨RJ8, "<init>", "(I)V"⟩
def dkwJ8_init_1 : List UInt8 := [167, 0, 16, 42, 27, 184, 0, 26, 181, 0, 15, 42, 4, 181, 0, 22, 177]
abbrev dktJ8_init_1 : List UInt8 := dkwJ8_init_1 ++ []
def dkwJ8_init_0 : List UInt8 := [42, 183, 0, 3, 178, 0, 18, 153, 0, 18, 42, 27, 188, 8, 181, 0, 15, 42, 3, 181, 0, 22]
abbrev dktJ8_init_0 : List UInt8 := dkwJ8_init_0 ++ dktJ8_init_1
theorem dksJ8_init_0 : cJ8_init.data.toList.drop 0 = dktJ8_init_0 := sorry
theorem dksJ8_init_1 : cJ8_init.data.toList.drop 22 = dktJ8_init_1 := sorry
theorem dJ8_init_0 : decode cJ8_init 0 = .ok (.aload_n 0, 1) := sorry
theorem dJ8_init_1 : decode cJ8_init 1 = .ok (.invokespecial 3, 3) := sorry
theorem dJ8_init_4 : decode cJ8_init 4 = .ok (.getstatic 18, 3) := sorry
theorem dJ8_init_7 : decode cJ8_init 7 = .ok (.ifCond .eq 18, 3) := sorry
theorem dJ8_init_10 : decode cJ8_init 10 = .ok (.aload_n 0, 1) := sorry
theorem dJ8_init_11 : decode cJ8_init 11 = .ok (.iload_n 1, 1) := sorry
theorem dJ8_init_12 : decode cJ8_init 12 = .ok (.newarray .byte, 2) := sorry
theorem dJ8_init_14 : decode cJ8_init 14 = .ok (.putfield 15, 3) := sorry
theorem dJ8_init_17 : decode cJ8_init 17 = .ok (.aload_n 0, 1) := sorry
theorem dJ8_init_18 : decode cJ8_init 18 = .ok (.iconst 0, 1) := sorry
theorem dJ8_init_19 : decode cJ8_init 19 = .ok (.putfield 22, 3) := sorry
theorem dJ8_init_22 : decode cJ8_init 22 = .ok (.goto 16, 3) := sorry
theorem dJ8_init_25 : decode cJ8_init 25 = .ok (.aload_n 0, 1) := sorry
theorem dJ8_init_26 : decode cJ8_init 26 = .ok (.iload_n 1, 1) := sorry
theorem dJ8_init_27 : decode cJ8_init 27 = .ok (.invokestatic 26, 3) := sorry
theorem dJ8_init_30 : decode cJ8_init 30 = .ok (.putfield 15, 3) := sorry
theorem dJ8_init_33 : decode cJ8_init 33 = .ok (.aload_n 0, 1) := sorry
theorem dJ8_init_34 : decode cJ8_init 34 = .ok (.iconst 1, 1) := sorry
theorem dJ8_init_35 : decode cJ8_init 35 = .ok (.putfield 22, 3) := sorry
theorem dJ8_init_38 : decode cJ8_init 38 = .ok (.return_, 1) := sorry
abbrev cJ8_append : ByteArray := prog_18_method_22_code
def yJ8_append : MethodName := ⟨RJ8, "append", "(Ljava/lang/String;)Ljava/lang/AbstractStringBuilder;"⟩
def dkwJ8_append_1 : List UInt8 := [42, 42, 180, 0, 79, 43, 182, 0, 208, 42, 89, 180, 0, 79, 28, 96, 181, 0, 79, 42, 176]
abbrev dktJ8_append_1 : List UInt8 := dkwJ8_append_1 ++ []
def dkwJ8_append_0 : List UInt8 := [43, 199, 0, 8, 42, 182, 0, 204, 176, 43, 182, 0, 32, 61, 42, 42, 180, 0, 79, 28, 96, 182, 0, 100]
abbrev dktJ8_append_0 : List UInt8 := dkwJ8_append_0 ++ dktJ8_append_1
theorem dksJ8_append_0 : cJ8_append.data.toList.drop 0 = dktJ8_append_0 := sorry
theorem dksJ8_append_1 : cJ8_append.data.toList.drop 24 = dktJ8_append_1 := sorry
theorem dJ8_append_0 : decode cJ8_append 0 = .ok (.aload_n 1, 1) := sorry
theorem dJ8_append_1 : decode cJ8_append 1 = .ok (.ifnonnull 8, 3) := sorry
theorem dJ8_append_4 : decode cJ8_append 4 = .ok (.aload_n 0, 1) := sorry
theorem dJ8_append_5 : decode cJ8_append 5 = .ok (.invokevirtual 204, 3) := sorry
theorem dJ8_append_8 : decode cJ8_append 8 = .ok (.areturn, 1) := sorry
theorem dJ8_append_9 : decode cJ8_append 9 = .ok (.aload_n 1, 1) := sorry
theorem dJ8_append_10 : decode cJ8_append 10 = .ok (.invokevirtual 32, 3) := sorry
theorem dJ8_append_13 : decode cJ8_append 13 = .ok (.istore_n 2, 1) := sorry
theorem dJ8_append_14 : decode cJ8_append 14 = .ok (.aload_n 0, 1) := sorry
theorem dJ8_append_15 : decode cJ8_append 15 = .ok (.aload_n 0, 1) := sorry
theorem dJ8_append_16 : decode cJ8_append 16 = .ok (.getfield 79, 3) := sorry
theorem dJ8_append_19 : decode cJ8_append 19 = .ok (.iload_n 2, 1) := sorry
theorem dJ8_append_20 : decode cJ8_append 20 = .ok (.iadd, 1) := sorry
theorem dJ8_append_21 : decode cJ8_append 21 = .ok (.invokevirtual 100, 3) := sorry
theorem dJ8_append_24 : decode cJ8_append 24 = .ok (.aload_n 0, 1) := sorry
theorem dJ8_append_25 : decode cJ8_append 25 = .ok (.aload_n 0, 1) := sorry
theorem dJ8_append_26 : decode cJ8_append 26 = .ok (.getfield 79, 3) := sorry
theorem dJ8_append_29 : decode cJ8_append 29 = .ok (.aload_n 1, 1) := sorry
theorem dJ8_append_30 : decode cJ8_append 30 = .ok (.invokevirtual 208, 3) := sorry
theorem dJ8_append_33 : decode cJ8_append 33 = .ok (.aload_n 0, 1) := sorry
theorem dJ8_append_34 : decode cJ8_append 34 = .ok (.dup, 1) := sorry
theorem dJ8_append_35 : decode cJ8_append 35 = .ok (.getfield 79, 3) := sorry
theorem dJ8_append_38 : decode cJ8_append 38 = .ok (.iload_n 2, 1) := sorry
theorem dJ8_append_39 : decode cJ8_append 39 = .ok (.iadd, 1) := sorry
theorem dJ8_append_40 : decode cJ8_append 40 = .ok (.putfield 79, 3) := sorry
theorem dJ8_append_43 : decode cJ8_append 43 = .ok (.aload_n 0, 1) := sorry
theorem dJ8_append_44 : decode cJ8_append 44 = .ok (.areturn, 1) := sorry
abbrev cJ8_appendNull : ByteArray := prog_18_method_26_code
def yJ8_appendNull : MethodName := ⟨RJ8, "appendNull", "()Ljava/lang/AbstractStringBuilder;"⟩
def dkwJ8_appendNull_3 : List UInt8 := [184, 0, 226, 60, 42, 27, 181, 0, 79, 42, 176]
abbrev dktJ8_appendNull_3 : List UInt8 := dkwJ8_appendNull_3 ++ []
def dkwJ8_appendNull_2 : List UInt8 := [16, 108, 84, 44, 27, 132, 1, 1, 16, 108, 84, 167, 0, 17, 44, 27, 16, 110, 16, 117, 16, 108, 16, 108]
abbrev dktJ8_appendNull_2 : List UInt8 := dkwJ8_appendNull_2 ++ dktJ8_appendNull_3
def dkwJ8_appendNull_1 : List UInt8 := [153, 0, 38, 44, 27, 132, 1, 1, 16, 110, 84, 44, 27, 132, 1, 1, 16, 117, 84, 44, 27, 132, 1, 1]
abbrev dktJ8_appendNull_1 : List UInt8 := dkwJ8_appendNull_1 ++ dktJ8_appendNull_2
def dkwJ8_appendNull_0 : List UInt8 := [42, 42, 180, 0, 79, 7, 96, 182, 0, 100, 42, 180, 0, 79, 60, 42, 180, 0, 15, 77, 42, 182, 0, 83]
abbrev dktJ8_appendNull_0 : List UInt8 := dkwJ8_appendNull_0 ++ dktJ8_appendNull_1
theorem dksJ8_appendNull_0 : cJ8_appendNull.data.toList.drop 0 = dktJ8_appendNull_0 := sorry
theorem dksJ8_appendNull_1 : cJ8_appendNull.data.toList.drop 24 = dktJ8_appendNull_1 := sorry
theorem dksJ8_appendNull_2 : cJ8_appendNull.data.toList.drop 48 = dktJ8_appendNull_2 := sorry
theorem dksJ8_appendNull_3 : cJ8_appendNull.data.toList.drop 72 = dktJ8_appendNull_3 := sorry
theorem dJ8_appendNull_0 : decode cJ8_appendNull 0 = .ok (.aload_n 0, 1) := sorry
theorem dJ8_appendNull_1 : decode cJ8_appendNull 1 = .ok (.aload_n 0, 1) := sorry
theorem dJ8_appendNull_2 : decode cJ8_appendNull 2 = .ok (.getfield 79, 3) := sorry
theorem dJ8_appendNull_5 : decode cJ8_appendNull 5 = .ok (.iconst 4, 1) := sorry
theorem dJ8_appendNull_6 : decode cJ8_appendNull 6 = .ok (.iadd, 1) := sorry
theorem dJ8_appendNull_7 : decode cJ8_appendNull 7 = .ok (.invokevirtual 100, 3) := sorry
theorem dJ8_appendNull_10 : decode cJ8_appendNull 10 = .ok (.aload_n 0, 1) := sorry
theorem dJ8_appendNull_11 : decode cJ8_appendNull 11 = .ok (.getfield 79, 3) := sorry
theorem dJ8_appendNull_14 : decode cJ8_appendNull 14 = .ok (.istore_n 1, 1) := sorry
theorem dJ8_appendNull_15 : decode cJ8_appendNull 15 = .ok (.aload_n 0, 1) := sorry
theorem dJ8_appendNull_16 : decode cJ8_appendNull 16 = .ok (.getfield 15, 3) := sorry
theorem dJ8_appendNull_19 : decode cJ8_appendNull 19 = .ok (.astore_n 2, 1) := sorry
theorem dJ8_appendNull_20 : decode cJ8_appendNull 20 = .ok (.aload_n 0, 1) := sorry
theorem dJ8_appendNull_21 : decode cJ8_appendNull 21 = .ok (.invokevirtual 83, 3) := sorry
theorem dJ8_appendNull_24 : decode cJ8_appendNull 24 = .ok (.ifCond .eq 38, 3) := sorry
theorem dJ8_appendNull_27 : decode cJ8_appendNull 27 = .ok (.aload_n 2, 1) := sorry
theorem dJ8_appendNull_28 : decode cJ8_appendNull 28 = .ok (.iload_n 1, 1) := sorry
theorem dJ8_appendNull_29 : decode cJ8_appendNull 29 = .ok (.iinc 1 1, 3) := sorry
theorem dJ8_appendNull_32 : decode cJ8_appendNull 32 = .ok (.bipush 110, 2) := sorry
theorem dJ8_appendNull_34 : decode cJ8_appendNull 34 = .ok (.bastore, 1) := sorry
theorem dJ8_appendNull_35 : decode cJ8_appendNull 35 = .ok (.aload_n 2, 1) := sorry
theorem dJ8_appendNull_36 : decode cJ8_appendNull 36 = .ok (.iload_n 1, 1) := sorry
theorem dJ8_appendNull_37 : decode cJ8_appendNull 37 = .ok (.iinc 1 1, 3) := sorry
theorem dJ8_appendNull_40 : decode cJ8_appendNull 40 = .ok (.bipush 117, 2) := sorry
theorem dJ8_appendNull_42 : decode cJ8_appendNull 42 = .ok (.bastore, 1) := sorry
theorem dJ8_appendNull_43 : decode cJ8_appendNull 43 = .ok (.aload_n 2, 1) := sorry
theorem dJ8_appendNull_44 : decode cJ8_appendNull 44 = .ok (.iload_n 1, 1) := sorry
theorem dJ8_appendNull_45 : decode cJ8_appendNull 45 = .ok (.iinc 1 1, 3) := sorry
theorem dJ8_appendNull_48 : decode cJ8_appendNull 48 = .ok (.bipush 108, 2) := sorry
theorem dJ8_appendNull_50 : decode cJ8_appendNull 50 = .ok (.bastore, 1) := sorry
theorem dJ8_appendNull_51 : decode cJ8_appendNull 51 = .ok (.aload_n 2, 1) := sorry
theorem dJ8_appendNull_52 : decode cJ8_appendNull 52 = .ok (.iload_n 1, 1) := sorry
theorem dJ8_appendNull_53 : decode cJ8_appendNull 53 = .ok (.iinc 1 1, 3) := sorry
theorem dJ8_appendNull_56 : decode cJ8_appendNull 56 = .ok (.bipush 108, 2) := sorry
theorem dJ8_appendNull_58 : decode cJ8_appendNull 58 = .ok (.bastore, 1) := sorry
theorem dJ8_appendNull_59 : decode cJ8_appendNull 59 = .ok (.goto 17, 3) := sorry
theorem dJ8_appendNull_62 : decode cJ8_appendNull 62 = .ok (.aload_n 2, 1) := sorry
theorem dJ8_appendNull_63 : decode cJ8_appendNull 63 = .ok (.iload_n 1, 1) := sorry
theorem dJ8_appendNull_64 : decode cJ8_appendNull 64 = .ok (.bipush 110, 2) := sorry
theorem dJ8_appendNull_66 : decode cJ8_appendNull 66 = .ok (.bipush 117, 2) := sorry
theorem dJ8_appendNull_68 : decode cJ8_appendNull 68 = .ok (.bipush 108, 2) := sorry
theorem dJ8_appendNull_70 : decode cJ8_appendNull 70 = .ok (.bipush 108, 2) := sorry
theorem dJ8_appendNull_72 : decode cJ8_appendNull 72 = .ok (.invokestatic 226, 3) := sorry
theorem dJ8_appendNull_75 : decode cJ8_appendNull 75 = .ok (.istore_n 1, 1) := sorry
theorem dJ8_appendNull_76 : decode cJ8_appendNull 76 = .ok (.aload_n 0, 1) := sorry
theorem dJ8_appendNull_77 : decode cJ8_appendNull 77 = .ok (.iload_n 1, 1) := sorry
theorem dJ8_appendNull_78 : decode cJ8_appendNull 78 = .ok (.putfield 79, 3) := sorry
theorem dJ8_appendNull_81 : decode cJ8_appendNull 81 = .ok (.aload_n 0, 1) := sorry
theorem dJ8_appendNull_82 : decode cJ8_appendNull 82 = .ok (.areturn, 1) := sorry
abbrev cJ8_ensureCapacityInternal : ByteArray := prog_18_method_9_code
def yJ8_ensureCapacityInternal : MethodName := ⟨RJ8, "ensureCapacityInternal", "(I)V"⟩
def dkwJ8_ensureCapacityInternal_1 : List UInt8 := [182, 0, 104, 42, 180, 0, 22, 120, 184, 0, 108, 181, 0, 15, 177]
abbrev dktJ8_ensureCapacityInternal_1 : List UInt8 := dkwJ8_ensureCapacityInternal_1 ++ []
def dkwJ8_ensureCapacityInternal_0 : List UInt8 := [42, 180, 0, 15, 190, 42, 180, 0, 22, 122, 61, 27, 28, 100, 158, 0, 24, 42, 42, 180, 0, 15, 42, 27]
abbrev dktJ8_ensureCapacityInternal_0 : List UInt8 := dkwJ8_ensureCapacityInternal_0 ++ dktJ8_ensureCapacityInternal_1
theorem dksJ8_ensureCapacityInternal_0 : cJ8_ensureCapacityInternal.data.toList.drop 0 = dktJ8_ensureCapacityInternal_0 := sorry
theorem dksJ8_ensureCapacityInternal_1 : cJ8_ensureCapacityInternal.data.toList.drop 24 = dktJ8_ensureCapacityInternal_1 := sorry
theorem dJ8_ensureCapacityInternal_0 : decode cJ8_ensureCapacityInternal 0 = .ok (.aload_n 0, 1) := sorry
theorem dJ8_ensureCapacityInternal_1 : decode cJ8_ensureCapacityInternal 1 = .ok (.getfield 15, 3) := sorry
theorem dJ8_ensureCapacityInternal_4 : decode cJ8_ensureCapacityInternal 4 = .ok (.arraylength, 1) := sorry
theorem dJ8_ensureCapacityInternal_5 : decode cJ8_ensureCapacityInternal 5 = .ok (.aload_n 0, 1) := sorry
theorem dJ8_ensureCapacityInternal_6 : decode cJ8_ensureCapacityInternal 6 = .ok (.getfield 22, 3) := sorry
theorem dJ8_ensureCapacityInternal_9 : decode cJ8_ensureCapacityInternal 9 = .ok (.ishr, 1) := sorry
theorem dJ8_ensureCapacityInternal_10 : decode cJ8_ensureCapacityInternal 10 = .ok (.istore_n 2, 1) := sorry
theorem dJ8_ensureCapacityInternal_11 : decode cJ8_ensureCapacityInternal 11 = .ok (.iload_n 1, 1) := sorry
theorem dJ8_ensureCapacityInternal_12 : decode cJ8_ensureCapacityInternal 12 = .ok (.iload_n 2, 1) := sorry
theorem dJ8_ensureCapacityInternal_13 : decode cJ8_ensureCapacityInternal 13 = .ok (.isub, 1) := sorry
theorem dJ8_ensureCapacityInternal_14 : decode cJ8_ensureCapacityInternal 14 = .ok (.ifCond .le 24, 3) := sorry
theorem dJ8_ensureCapacityInternal_17 : decode cJ8_ensureCapacityInternal 17 = .ok (.aload_n 0, 1) := sorry
theorem dJ8_ensureCapacityInternal_18 : decode cJ8_ensureCapacityInternal 18 = .ok (.aload_n 0, 1) := sorry
theorem dJ8_ensureCapacityInternal_19 : decode cJ8_ensureCapacityInternal 19 = .ok (.getfield 15, 3) := sorry
theorem dJ8_ensureCapacityInternal_22 : decode cJ8_ensureCapacityInternal 22 = .ok (.aload_n 0, 1) := sorry
theorem dJ8_ensureCapacityInternal_23 : decode cJ8_ensureCapacityInternal 23 = .ok (.iload_n 1, 1) := sorry
theorem dJ8_ensureCapacityInternal_24 : decode cJ8_ensureCapacityInternal 24 = .ok (.invokevirtual 104, 3) := sorry
theorem dJ8_ensureCapacityInternal_27 : decode cJ8_ensureCapacityInternal 27 = .ok (.aload_n 0, 1) := sorry
theorem dJ8_ensureCapacityInternal_28 : decode cJ8_ensureCapacityInternal 28 = .ok (.getfield 22, 3) := sorry
theorem dJ8_ensureCapacityInternal_31 : decode cJ8_ensureCapacityInternal 31 = .ok (.ishl, 1) := sorry
theorem dJ8_ensureCapacityInternal_32 : decode cJ8_ensureCapacityInternal 32 = .ok (.invokestatic 108, 3) := sorry
theorem dJ8_ensureCapacityInternal_35 : decode cJ8_ensureCapacityInternal 35 = .ok (.putfield 15, 3) := sorry
theorem dJ8_ensureCapacityInternal_38 : decode cJ8_ensureCapacityInternal 38 = .ok (.return_, 1) := sorry
abbrev cJ8_newCapacity : ByteArray := prog_18_method_10_code
def yJ8_newCapacity : MethodName := ⟨RJ8, "newCapacity", "(I)I"⟩
def dkwJ8_newCapacity_2 : List UInt8 := [183, 0, 124, 191, 21, 5, 42, 180, 0, 22, 122, 172]
abbrev dktJ8_newCapacity_2 : List UInt8 := dkwJ8_newCapacity_2 ++ []
def dkwJ8_newCapacity_1 : List UInt8 := [180, 0, 22, 120, 96, 184, 0, 114, 54, 5, 21, 5, 18, 39, 160, 0, 13, 187, 0, 120, 89, 18, 122]
abbrev dktJ8_newCapacity_1 : List UInt8 := dkwJ8_newCapacity_1 ++ dktJ8_newCapacity_2
def dkwJ8_newCapacity_0 : List UInt8 := [42, 180, 0, 15, 190, 61, 27, 42, 180, 0, 22, 120, 62, 29, 28, 100, 54, 4, 28, 21, 4, 28, 5, 42]
abbrev dktJ8_newCapacity_0 : List UInt8 := dkwJ8_newCapacity_0 ++ dktJ8_newCapacity_1
theorem dksJ8_newCapacity_0 : cJ8_newCapacity.data.toList.drop 0 = dktJ8_newCapacity_0 := sorry
theorem dksJ8_newCapacity_1 : cJ8_newCapacity.data.toList.drop 24 = dktJ8_newCapacity_1 := sorry
theorem dksJ8_newCapacity_2 : cJ8_newCapacity.data.toList.drop 47 = dktJ8_newCapacity_2 := sorry
theorem dJ8_newCapacity_0 : decode cJ8_newCapacity 0 = .ok (.aload_n 0, 1) := sorry
theorem dJ8_newCapacity_1 : decode cJ8_newCapacity 1 = .ok (.getfield 15, 3) := sorry
theorem dJ8_newCapacity_4 : decode cJ8_newCapacity 4 = .ok (.arraylength, 1) := sorry
theorem dJ8_newCapacity_5 : decode cJ8_newCapacity 5 = .ok (.istore_n 2, 1) := sorry
theorem dJ8_newCapacity_6 : decode cJ8_newCapacity 6 = .ok (.iload_n 1, 1) := sorry
theorem dJ8_newCapacity_7 : decode cJ8_newCapacity 7 = .ok (.aload_n 0, 1) := sorry
theorem dJ8_newCapacity_8 : decode cJ8_newCapacity 8 = .ok (.getfield 22, 3) := sorry
theorem dJ8_newCapacity_11 : decode cJ8_newCapacity 11 = .ok (.ishl, 1) := sorry
theorem dJ8_newCapacity_12 : decode cJ8_newCapacity 12 = .ok (.istore_n 3, 1) := sorry
theorem dJ8_newCapacity_13 : decode cJ8_newCapacity 13 = .ok (.iload_n 3, 1) := sorry
theorem dJ8_newCapacity_14 : decode cJ8_newCapacity 14 = .ok (.iload_n 2, 1) := sorry
theorem dJ8_newCapacity_15 : decode cJ8_newCapacity 15 = .ok (.isub, 1) := sorry
theorem dJ8_newCapacity_16 : decode cJ8_newCapacity 16 = .ok (.istore 4, 2) := sorry
theorem dJ8_newCapacity_18 : decode cJ8_newCapacity 18 = .ok (.iload_n 2, 1) := sorry
theorem dJ8_newCapacity_19 : decode cJ8_newCapacity 19 = .ok (.iload 4, 2) := sorry
theorem dJ8_newCapacity_21 : decode cJ8_newCapacity 21 = .ok (.iload_n 2, 1) := sorry
theorem dJ8_newCapacity_22 : decode cJ8_newCapacity 22 = .ok (.iconst 2, 1) := sorry
theorem dJ8_newCapacity_23 : decode cJ8_newCapacity 23 = .ok (.aload_n 0, 1) := sorry
theorem dJ8_newCapacity_24 : decode cJ8_newCapacity 24 = .ok (.getfield 22, 3) := sorry
theorem dJ8_newCapacity_27 : decode cJ8_newCapacity 27 = .ok (.ishl, 1) := sorry
theorem dJ8_newCapacity_28 : decode cJ8_newCapacity 28 = .ok (.iadd, 1) := sorry
theorem dJ8_newCapacity_29 : decode cJ8_newCapacity 29 = .ok (.invokestatic 114, 3) := sorry
theorem dJ8_newCapacity_32 : decode cJ8_newCapacity 32 = .ok (.istore 5, 2) := sorry
theorem dJ8_newCapacity_34 : decode cJ8_newCapacity 34 = .ok (.iload 5, 2) := sorry
theorem dJ8_newCapacity_36 : decode cJ8_newCapacity 36 = .ok (.ldc 39, 2) := sorry
theorem dJ8_newCapacity_38 : decode cJ8_newCapacity 38 = .ok (.if_icmp .ne 13, 3) := sorry
theorem dJ8_newCapacity_41 : decode cJ8_newCapacity 41 = .ok (.new 120, 3) := sorry
theorem dJ8_newCapacity_44 : decode cJ8_newCapacity 44 = .ok (.dup, 1) := sorry
theorem dJ8_newCapacity_45 : decode cJ8_newCapacity 45 = .ok (.ldc 122, 2) := sorry
theorem dJ8_newCapacity_47 : decode cJ8_newCapacity 47 = .ok (.invokespecial 124, 3) := sorry
theorem dJ8_newCapacity_50 : decode cJ8_newCapacity 50 = .ok (.athrow, 1) := sorry
theorem dJ8_newCapacity_51 : decode cJ8_newCapacity 51 = .ok (.iload 5, 2) := sorry
theorem dJ8_newCapacity_53 : decode cJ8_newCapacity 53 = .ok (.aload_n 0, 1) := sorry
theorem dJ8_newCapacity_54 : decode cJ8_newCapacity 54 = .ok (.getfield 22, 3) := sorry
theorem dJ8_newCapacity_57 : decode cJ8_newCapacity 57 = .ok (.ishr, 1) := sorry
theorem dJ8_newCapacity_58 : decode cJ8_newCapacity 58 = .ok (.ireturn, 1) := sorry
abbrev cJ8_isLatin1 : ByteArray := prog_18_method_68_code
def yJ8_isLatin1 : MethodName := ⟨RJ8, "isLatin1", "()Z"⟩
def dkwJ8_isLatin1_0 : List UInt8 := [178, 0, 18, 153, 0, 14, 42, 180, 0, 22, 154, 0, 7, 4, 167, 0, 4, 3, 172]
abbrev dktJ8_isLatin1_0 : List UInt8 := dkwJ8_isLatin1_0 ++ []
theorem dksJ8_isLatin1_0 : cJ8_isLatin1.data.toList.drop 0 = dktJ8_isLatin1_0 := sorry
theorem dJ8_isLatin1_0 : decode cJ8_isLatin1 0 = .ok (.getstatic 18, 3) := sorry
theorem dJ8_isLatin1_3 : decode cJ8_isLatin1 3 = .ok (.ifCond .eq 14, 3) := sorry
theorem dJ8_isLatin1_6 : decode cJ8_isLatin1 6 = .ok (.aload_n 0, 1) := sorry
theorem dJ8_isLatin1_7 : decode cJ8_isLatin1 7 = .ok (.getfield 22, 3) := sorry
theorem dJ8_isLatin1_10 : decode cJ8_isLatin1 10 = .ok (.ifCond .ne 7, 3) := sorry
theorem dJ8_isLatin1_13 : decode cJ8_isLatin1 13 = .ok (.iconst 1, 1) := sorry
theorem dJ8_isLatin1_14 : decode cJ8_isLatin1 14 = .ok (.goto 4, 3) := sorry
theorem dJ8_isLatin1_17 : decode cJ8_isLatin1 17 = .ok (.iconst 0, 1) := sorry
theorem dJ8_isLatin1_18 : decode cJ8_isLatin1 18 = .ok (.ireturn, 1) := sorry
abbrev cJ8_putStringAt : ByteArray := prog_18_method_73_code
def yJ8_putStringAt : MethodName := ⟨RJ8, "putStringAt", "(ILjava/lang/String;)V"⟩
def dkwJ8_putStringAt_0 : List UInt8 := [42, 44, 182, 1, 141, 44, 42, 180, 0, 15, 27, 42, 180, 0, 22, 182, 1, 143, 177]
abbrev dktJ8_putStringAt_0 : List UInt8 := dkwJ8_putStringAt_0 ++ []
theorem dksJ8_putStringAt_0 : cJ8_putStringAt.data.toList.drop 0 = dktJ8_putStringAt_0 := sorry
theorem dJ8_putStringAt_0 : decode cJ8_putStringAt 0 = .ok (.aload_n 0, 1) := sorry
theorem dJ8_putStringAt_1 : decode cJ8_putStringAt 1 = .ok (.aload_n 2, 1) := sorry
theorem dJ8_putStringAt_2 : decode cJ8_putStringAt 2 = .ok (.invokevirtual 397, 3) := sorry
theorem dJ8_putStringAt_5 : decode cJ8_putStringAt 5 = .ok (.aload_n 2, 1) := sorry
theorem dJ8_putStringAt_6 : decode cJ8_putStringAt 6 = .ok (.aload_n 0, 1) := sorry
theorem dJ8_putStringAt_7 : decode cJ8_putStringAt 7 = .ok (.getfield 15, 3) := sorry
theorem dJ8_putStringAt_10 : decode cJ8_putStringAt 10 = .ok (.iload_n 1, 1) := sorry
theorem dJ8_putStringAt_11 : decode cJ8_putStringAt 11 = .ok (.aload_n 0, 1) := sorry
theorem dJ8_putStringAt_12 : decode cJ8_putStringAt 12 = .ok (.getfield 22, 3) := sorry
theorem dJ8_putStringAt_15 : decode cJ8_putStringAt 15 = .ok (.invokevirtual 399, 3) := sorry
theorem dJ8_putStringAt_18 : decode cJ8_putStringAt 18 = .ok (.return_, 1) := sorry
abbrev cJ8_inflateIfNeededFor : ByteArray := prog_18_method_71_code
def yJ8_inflateIfNeededFor : MethodName := ⟨RJ8, "inflateIfNeededFor", "(Ljava/lang/String;)V"⟩
def dkwJ8_inflateIfNeededFor_0 : List UInt8 := [178, 0, 18, 153, 0, 18, 42, 180, 0, 22, 43, 182, 0, 40, 159, 0, 7, 42, 182, 0, 195, 177]
abbrev dktJ8_inflateIfNeededFor_0 : List UInt8 := dkwJ8_inflateIfNeededFor_0 ++ []
theorem dksJ8_inflateIfNeededFor_0 : cJ8_inflateIfNeededFor.data.toList.drop 0 = dktJ8_inflateIfNeededFor_0 := sorry
theorem dJ8_inflateIfNeededFor_0 : decode cJ8_inflateIfNeededFor 0 = .ok (.getstatic 18, 3) := sorry
theorem dJ8_inflateIfNeededFor_3 : decode cJ8_inflateIfNeededFor 3 = .ok (.ifCond .eq 18, 3) := sorry
theorem dJ8_inflateIfNeededFor_6 : decode cJ8_inflateIfNeededFor 6 = .ok (.aload_n 0, 1) := sorry
theorem dJ8_inflateIfNeededFor_7 : decode cJ8_inflateIfNeededFor 7 = .ok (.getfield 22, 3) := sorry
theorem dJ8_inflateIfNeededFor_10 : decode cJ8_inflateIfNeededFor 10 = .ok (.aload_n 1, 1) := sorry
theorem dJ8_inflateIfNeededFor_11 : decode cJ8_inflateIfNeededFor 11 = .ok (.invokevirtual 40, 3) := sorry
theorem dJ8_inflateIfNeededFor_14 : decode cJ8_inflateIfNeededFor 14 = .ok (.if_icmp .eq 7, 3) := sorry
theorem dJ8_inflateIfNeededFor_17 : decode cJ8_inflateIfNeededFor 17 = .ok (.aload_n 0, 1) := sorry
theorem dJ8_inflateIfNeededFor_18 : decode cJ8_inflateIfNeededFor 18 = .ok (.invokevirtual 195, 3) := sorry
theorem dJ8_inflateIfNeededFor_21 : decode cJ8_inflateIfNeededFor 21 = .ok (.return_, 1) := sorry
abbrev cJ8_inflate : ByteArray := prog_18_method_11_code
def yJ8_inflate : MethodName := ⟨RJ8, "inflate", "()V"⟩
def dkwJ8_inflate_1 : List UInt8 := [42, 180, 0, 79, 184, 0, 125, 42, 43, 181, 0, 15, 42, 4, 181, 0, 22, 177]
abbrev dktJ8_inflate_1 : List UInt8 := dkwJ8_inflate_1 ++ []
def dkwJ8_inflate_0 : List UInt8 := [42, 182, 0, 83, 154, 0, 4, 177, 42, 180, 0, 15, 190, 184, 0, 26, 76, 42, 180, 0, 15, 3, 43, 3]
abbrev dktJ8_inflate_0 : List UInt8 := dkwJ8_inflate_0 ++ dktJ8_inflate_1
theorem dksJ8_inflate_0 : cJ8_inflate.data.toList.drop 0 = dktJ8_inflate_0 := sorry
theorem dksJ8_inflate_1 : cJ8_inflate.data.toList.drop 24 = dktJ8_inflate_1 := sorry
theorem dJ8_inflate_0 : decode cJ8_inflate 0 = .ok (.aload_n 0, 1) := sorry
theorem dJ8_inflate_1 : decode cJ8_inflate 1 = .ok (.invokevirtual 83, 3) := sorry
theorem dJ8_inflate_4 : decode cJ8_inflate 4 = .ok (.ifCond .ne 4, 3) := sorry
theorem dJ8_inflate_7 : decode cJ8_inflate 7 = .ok (.return_, 1) := sorry
theorem dJ8_inflate_8 : decode cJ8_inflate 8 = .ok (.aload_n 0, 1) := sorry
theorem dJ8_inflate_9 : decode cJ8_inflate 9 = .ok (.getfield 15, 3) := sorry
theorem dJ8_inflate_12 : decode cJ8_inflate 12 = .ok (.arraylength, 1) := sorry
theorem dJ8_inflate_13 : decode cJ8_inflate 13 = .ok (.invokestatic 26, 3) := sorry
theorem dJ8_inflate_16 : decode cJ8_inflate 16 = .ok (.astore_n 1, 1) := sorry
theorem dJ8_inflate_17 : decode cJ8_inflate 17 = .ok (.aload_n 0, 1) := sorry
theorem dJ8_inflate_18 : decode cJ8_inflate 18 = .ok (.getfield 15, 3) := sorry
theorem dJ8_inflate_21 : decode cJ8_inflate 21 = .ok (.iconst 0, 1) := sorry
theorem dJ8_inflate_22 : decode cJ8_inflate 22 = .ok (.aload_n 1, 1) := sorry
theorem dJ8_inflate_23 : decode cJ8_inflate 23 = .ok (.iconst 0, 1) := sorry
theorem dJ8_inflate_24 : decode cJ8_inflate 24 = .ok (.aload_n 0, 1) := sorry
theorem dJ8_inflate_25 : decode cJ8_inflate 25 = .ok (.getfield 79, 3) := sorry
theorem dJ8_inflate_28 : decode cJ8_inflate 28 = .ok (.invokestatic 125, 3) := sorry
theorem dJ8_inflate_31 : decode cJ8_inflate 31 = .ok (.aload_n 0, 1) := sorry
theorem dJ8_inflate_32 : decode cJ8_inflate 32 = .ok (.aload_n 1, 1) := sorry
theorem dJ8_inflate_33 : decode cJ8_inflate 33 = .ok (.putfield 15, 3) := sorry
theorem dJ8_inflate_36 : decode cJ8_inflate 36 = .ok (.aload_n 0, 1) := sorry
theorem dJ8_inflate_37 : decode cJ8_inflate 37 = .ok (.iconst 1, 1) := sorry
theorem dJ8_inflate_38 : decode cJ8_inflate 38 = .ok (.putfield 22, 3) := sorry
theorem dJ8_inflate_41 : decode cJ8_inflate 41 = .ok (.return_, 1) := sorry
abbrev cJ8_append_2 : ByteArray := prog_18_method_32_code
def yJ8_append_2 : MethodName := ⟨RJ8, "append", "(I)Ljava/lang/AbstractStringBuilder;"⟩
def dkwJ8_append_2_2 : List UInt8 := [42, 29, 181, 0, 79, 42, 176]
abbrev dktJ8_append_2_2 : List UInt8 := dkwJ8_append_2_2 ++ []
def dkwJ8_append_2_1 : List UInt8 := [27, 29, 42, 180, 0, 15, 184, 0, 248, 87, 167, 0, 14, 27, 28, 29, 42, 180, 0, 15, 184, 0, 251, 87]
abbrev dktJ8_append_2_1 : List UInt8 := dkwJ8_append_2_1 ++ dktJ8_append_2_2
def dkwJ8_append_2_0 : List UInt8 := [42, 180, 0, 79, 61, 28, 27, 184, 0, 245, 96, 62, 42, 29, 182, 0, 100, 42, 182, 0, 83, 153, 0, 16]
abbrev dktJ8_append_2_0 : List UInt8 := dkwJ8_append_2_0 ++ dktJ8_append_2_1
theorem dksJ8_append_2_0 : cJ8_append_2.data.toList.drop 0 = dktJ8_append_2_0 := sorry
theorem dksJ8_append_2_1 : cJ8_append_2.data.toList.drop 24 = dktJ8_append_2_1 := sorry
theorem dksJ8_append_2_2 : cJ8_append_2.data.toList.drop 48 = dktJ8_append_2_2 := sorry
theorem dJ8_append_2_0 : decode cJ8_append_2 0 = .ok (.aload_n 0, 1) := sorry
theorem dJ8_append_2_1 : decode cJ8_append_2 1 = .ok (.getfield 79, 3) := sorry
theorem dJ8_append_2_4 : decode cJ8_append_2 4 = .ok (.istore_n 2, 1) := sorry
theorem dJ8_append_2_5 : decode cJ8_append_2 5 = .ok (.iload_n 2, 1) := sorry
theorem dJ8_append_2_6 : decode cJ8_append_2 6 = .ok (.iload_n 1, 1) := sorry
theorem dJ8_append_2_7 : decode cJ8_append_2 7 = .ok (.invokestatic 245, 3) := sorry
theorem dJ8_append_2_10 : decode cJ8_append_2 10 = .ok (.iadd, 1) := sorry
theorem dJ8_append_2_11 : decode cJ8_append_2 11 = .ok (.istore_n 3, 1) := sorry
theorem dJ8_append_2_12 : decode cJ8_append_2 12 = .ok (.aload_n 0, 1) := sorry
theorem dJ8_append_2_13 : decode cJ8_append_2 13 = .ok (.iload_n 3, 1) := sorry
theorem dJ8_append_2_14 : decode cJ8_append_2 14 = .ok (.invokevirtual 100, 3) := sorry
theorem dJ8_append_2_17 : decode cJ8_append_2 17 = .ok (.aload_n 0, 1) := sorry
theorem dJ8_append_2_18 : decode cJ8_append_2 18 = .ok (.invokevirtual 83, 3) := sorry
theorem dJ8_append_2_21 : decode cJ8_append_2 21 = .ok (.ifCond .eq 16, 3) := sorry
theorem dJ8_append_2_24 : decode cJ8_append_2 24 = .ok (.iload_n 1, 1) := sorry
theorem dJ8_append_2_25 : decode cJ8_append_2 25 = .ok (.iload_n 3, 1) := sorry
theorem dJ8_append_2_26 : decode cJ8_append_2 26 = .ok (.aload_n 0, 1) := sorry
theorem dJ8_append_2_27 : decode cJ8_append_2 27 = .ok (.getfield 15, 3) := sorry
theorem dJ8_append_2_30 : decode cJ8_append_2 30 = .ok (.invokestatic 248, 3) := sorry
theorem dJ8_append_2_33 : decode cJ8_append_2 33 = .ok (.pop, 1) := sorry
theorem dJ8_append_2_34 : decode cJ8_append_2 34 = .ok (.goto 14, 3) := sorry
theorem dJ8_append_2_37 : decode cJ8_append_2 37 = .ok (.iload_n 1, 1) := sorry
theorem dJ8_append_2_38 : decode cJ8_append_2 38 = .ok (.iload_n 2, 1) := sorry
theorem dJ8_append_2_39 : decode cJ8_append_2 39 = .ok (.iload_n 3, 1) := sorry
theorem dJ8_append_2_40 : decode cJ8_append_2 40 = .ok (.aload_n 0, 1) := sorry
theorem dJ8_append_2_41 : decode cJ8_append_2 41 = .ok (.getfield 15, 3) := sorry
theorem dJ8_append_2_44 : decode cJ8_append_2 44 = .ok (.invokestatic 251, 3) := sorry
theorem dJ8_append_2_47 : decode cJ8_append_2 47 = .ok (.pop, 1) := sorry
theorem dJ8_append_2_48 : decode cJ8_append_2 48 = .ok (.aload_n 0, 1) := sorry
theorem dJ8_append_2_49 : decode cJ8_append_2 49 = .ok (.iload_n 3, 1) := sorry
theorem dJ8_append_2_50 : decode cJ8_append_2 50 = .ok (.putfield 79, 3) := sorry
theorem dJ8_append_2_53 : decode cJ8_append_2 53 = .ok (.aload_n 0, 1) := sorry
theorem dJ8_append_2_54 : decode cJ8_append_2 54 = .ok (.areturn, 1) := sorry
abbrev cJ8_getValue : ByteArray := prog_18_method_64_code
def yJ8_getValue : MethodName := ⟨RJ8, "getValue", "()[B"⟩
theorem dJ8_getValue_0 : decode cJ8_getValue 0 = .ok (.aload_n 0, 1) := sorry
theorem dJ8_getValue_1 : decode cJ8_getValue 1 = .ok (.getfield 15, 3) := sorry
theorem dJ8_getValue_4 : decode cJ8_getValue 4 = .ok (.areturn, 1) := sorry
abbrev cJ8_length : ByteArray := prog_18_method_6_code
def yJ8_length : MethodName := ⟨RJ8, "length", "()I"⟩
theorem dJ8_length_0 : decode cJ8_length 0 = .ok (.aload_n 0, 1) := sorry
theorem dJ8_length_1 : decode cJ8_length 1 = .ok (.getfield 79, 3) := sorry
theorem dJ8_length_4 : decode cJ8_length 4 = .ok (.ireturn, 1) := sorry
abbrev cJ8_charAt : ByteArray := prog_18_method_14_code
def yJ8_charAt : MethodName := ⟨RJ8, "charAt", "(I)C"⟩
def dkwJ8_charAt_1 : List UInt8 := [21, 4, 184, 0, 144, 28, 154, 0, 12, 45, 27, 51, 17, 0, 255, 126, 146, 172, 45, 27, 184, 0, 148, 172]
abbrev dktJ8_charAt_1 : List UInt8 := dkwJ8_charAt_1 ++ []
def dkwJ8_charAt_0 : List UInt8 := [42, 180, 0, 22, 61, 42, 180, 0, 15, 78, 42, 180, 0, 79, 45, 190, 28, 122, 184, 0, 138, 54, 4, 27]
abbrev dktJ8_charAt_0 : List UInt8 := dkwJ8_charAt_0 ++ dktJ8_charAt_1
theorem dksJ8_charAt_0 : cJ8_charAt.data.toList.drop 0 = dktJ8_charAt_0 := sorry
theorem dksJ8_charAt_1 : cJ8_charAt.data.toList.drop 24 = dktJ8_charAt_1 := sorry
theorem dJ8_charAt_0 : decode cJ8_charAt 0 = .ok (.aload_n 0, 1) := sorry
theorem dJ8_charAt_1 : decode cJ8_charAt 1 = .ok (.getfield 22, 3) := sorry
theorem dJ8_charAt_4 : decode cJ8_charAt 4 = .ok (.istore_n 2, 1) := sorry
theorem dJ8_charAt_5 : decode cJ8_charAt 5 = .ok (.aload_n 0, 1) := sorry
theorem dJ8_charAt_6 : decode cJ8_charAt 6 = .ok (.getfield 15, 3) := sorry
theorem dJ8_charAt_9 : decode cJ8_charAt 9 = .ok (.astore_n 3, 1) := sorry
theorem dJ8_charAt_10 : decode cJ8_charAt 10 = .ok (.aload_n 0, 1) := sorry
theorem dJ8_charAt_11 : decode cJ8_charAt 11 = .ok (.getfield 79, 3) := sorry
theorem dJ8_charAt_14 : decode cJ8_charAt 14 = .ok (.aload_n 3, 1) := sorry
theorem dJ8_charAt_15 : decode cJ8_charAt 15 = .ok (.arraylength, 1) := sorry
theorem dJ8_charAt_16 : decode cJ8_charAt 16 = .ok (.iload_n 2, 1) := sorry
theorem dJ8_charAt_17 : decode cJ8_charAt 17 = .ok (.ishr, 1) := sorry
theorem dJ8_charAt_18 : decode cJ8_charAt 18 = .ok (.invokestatic 138, 3) := sorry
theorem dJ8_charAt_21 : decode cJ8_charAt 21 = .ok (.istore 4, 2) := sorry
theorem dJ8_charAt_23 : decode cJ8_charAt 23 = .ok (.iload_n 1, 1) := sorry
theorem dJ8_charAt_24 : decode cJ8_charAt 24 = .ok (.iload 4, 2) := sorry
theorem dJ8_charAt_26 : decode cJ8_charAt 26 = .ok (.invokestatic 144, 3) := sorry
theorem dJ8_charAt_29 : decode cJ8_charAt 29 = .ok (.iload_n 2, 1) := sorry
theorem dJ8_charAt_30 : decode cJ8_charAt 30 = .ok (.ifCond .ne 12, 3) := sorry
theorem dJ8_charAt_33 : decode cJ8_charAt 33 = .ok (.aload_n 3, 1) := sorry
theorem dJ8_charAt_34 : decode cJ8_charAt 34 = .ok (.iload_n 1, 1) := sorry
theorem dJ8_charAt_35 : decode cJ8_charAt 35 = .ok (.baload, 1) := sorry
theorem dJ8_charAt_36 : decode cJ8_charAt 36 = .ok (.sipush 255, 3) := sorry
theorem dJ8_charAt_39 : decode cJ8_charAt 39 = .ok (.iand, 1) := sorry
theorem dJ8_charAt_40 : decode cJ8_charAt 40 = .ok (.i2c, 1) := sorry
theorem dJ8_charAt_41 : decode cJ8_charAt 41 = .ok (.ireturn, 1) := sorry
theorem dJ8_charAt_42 : decode cJ8_charAt 42 = .ok (.aload_n 3, 1) := sorry
theorem dJ8_charAt_43 : decode cJ8_charAt 43 = .ok (.iload_n 1, 1) := sorry
theorem dJ8_charAt_44 : decode cJ8_charAt 44 = .ok (.invokestatic 148, 3) := sorry
theorem dJ8_charAt_47 : decode cJ8_charAt 47 = .ok (.ireturn, 1) := sorry
abbrev cJ8_append_3 : ByteArray := prog_18_method_31_code
def yJ8_append_3 : MethodName := ⟨RJ8, "append", "(C)Ljava/lang/AbstractStringBuilder;"⟩
def dkwJ8_append_3_3 : List UInt8 := [181, 0, 79, 27, 184, 0, 197, 42, 176]
abbrev dktJ8_append_3_3 : List UInt8 := dkwJ8_append_3_3 ++ []
def dkwJ8_append_3_2 : List UInt8 := [182, 0, 83, 153, 0, 7, 42, 182, 0, 195, 42, 180, 0, 15, 42, 89, 180, 0, 79, 90, 4, 96]
abbrev dktJ8_append_3_2 : List UInt8 := dkwJ8_append_3_2 ++ dktJ8_append_3_3
def dkwJ8_append_3_1 : List UInt8 := [42, 180, 0, 15, 42, 89, 180, 0, 79, 90, 4, 96, 181, 0, 79, 27, 145, 84, 167, 0, 33, 42]
abbrev dktJ8_append_3_1 : List UInt8 := dkwJ8_append_3_1 ++ dktJ8_append_3_2
def dkwJ8_append_3_0 : List UInt8 := [42, 42, 180, 0, 79, 4, 96, 182, 0, 100, 42, 182, 0, 83, 153, 0, 31, 27, 184, 0, 191, 153, 0, 24]
abbrev dktJ8_append_3_0 : List UInt8 := dkwJ8_append_3_0 ++ dktJ8_append_3_1
theorem dksJ8_append_3_0 : cJ8_append_3.data.toList.drop 0 = dktJ8_append_3_0 := sorry
theorem dksJ8_append_3_1 : cJ8_append_3.data.toList.drop 24 = dktJ8_append_3_1 := sorry
theorem dksJ8_append_3_2 : cJ8_append_3.data.toList.drop 46 = dktJ8_append_3_2 := sorry
theorem dksJ8_append_3_3 : cJ8_append_3.data.toList.drop 68 = dktJ8_append_3_3 := sorry
theorem dJ8_append_3_0 : decode cJ8_append_3 0 = .ok (.aload_n 0, 1) := sorry
theorem dJ8_append_3_1 : decode cJ8_append_3 1 = .ok (.aload_n 0, 1) := sorry
theorem dJ8_append_3_2 : decode cJ8_append_3 2 = .ok (.getfield 79, 3) := sorry
theorem dJ8_append_3_5 : decode cJ8_append_3 5 = .ok (.iconst 1, 1) := sorry
theorem dJ8_append_3_6 : decode cJ8_append_3 6 = .ok (.iadd, 1) := sorry
theorem dJ8_append_3_7 : decode cJ8_append_3 7 = .ok (.invokevirtual 100, 3) := sorry
theorem dJ8_append_3_10 : decode cJ8_append_3 10 = .ok (.aload_n 0, 1) := sorry
theorem dJ8_append_3_11 : decode cJ8_append_3 11 = .ok (.invokevirtual 83, 3) := sorry
theorem dJ8_append_3_14 : decode cJ8_append_3 14 = .ok (.ifCond .eq 31, 3) := sorry
theorem dJ8_append_3_17 : decode cJ8_append_3 17 = .ok (.iload_n 1, 1) := sorry
theorem dJ8_append_3_18 : decode cJ8_append_3 18 = .ok (.invokestatic 191, 3) := sorry
theorem dJ8_append_3_21 : decode cJ8_append_3 21 = .ok (.ifCond .eq 24, 3) := sorry
theorem dJ8_append_3_24 : decode cJ8_append_3 24 = .ok (.aload_n 0, 1) := sorry
theorem dJ8_append_3_25 : decode cJ8_append_3 25 = .ok (.getfield 15, 3) := sorry
theorem dJ8_append_3_28 : decode cJ8_append_3 28 = .ok (.aload_n 0, 1) := sorry
theorem dJ8_append_3_29 : decode cJ8_append_3 29 = .ok (.dup, 1) := sorry
theorem dJ8_append_3_30 : decode cJ8_append_3 30 = .ok (.getfield 79, 3) := sorry
theorem dJ8_append_3_33 : decode cJ8_append_3 33 = .ok (.dup_x1, 1) := sorry
theorem dJ8_append_3_34 : decode cJ8_append_3 34 = .ok (.iconst 1, 1) := sorry
theorem dJ8_append_3_35 : decode cJ8_append_3 35 = .ok (.iadd, 1) := sorry
theorem dJ8_append_3_36 : decode cJ8_append_3 36 = .ok (.putfield 79, 3) := sorry
theorem dJ8_append_3_39 : decode cJ8_append_3 39 = .ok (.iload_n 1, 1) := sorry
theorem dJ8_append_3_40 : decode cJ8_append_3 40 = .ok (.i2b, 1) := sorry
theorem dJ8_append_3_41 : decode cJ8_append_3 41 = .ok (.bastore, 1) := sorry
theorem dJ8_append_3_42 : decode cJ8_append_3 42 = .ok (.goto 33, 3) := sorry
theorem dJ8_append_3_45 : decode cJ8_append_3 45 = .ok (.aload_n 0, 1) := sorry
theorem dJ8_append_3_46 : decode cJ8_append_3 46 = .ok (.invokevirtual 83, 3) := sorry
theorem dJ8_append_3_49 : decode cJ8_append_3 49 = .ok (.ifCond .eq 7, 3) := sorry
theorem dJ8_append_3_52 : decode cJ8_append_3 52 = .ok (.aload_n 0, 1) := sorry
theorem dJ8_append_3_53 : decode cJ8_append_3 53 = .ok (.invokevirtual 195, 3) := sorry
theorem dJ8_append_3_56 : decode cJ8_append_3 56 = .ok (.aload_n 0, 1) := sorry
theorem dJ8_append_3_57 : decode cJ8_append_3 57 = .ok (.getfield 15, 3) := sorry
theorem dJ8_append_3_60 : decode cJ8_append_3 60 = .ok (.aload_n 0, 1) := sorry
theorem dJ8_append_3_61 : decode cJ8_append_3 61 = .ok (.dup, 1) := sorry
theorem dJ8_append_3_62 : decode cJ8_append_3 62 = .ok (.getfield 79, 3) := sorry
theorem dJ8_append_3_65 : decode cJ8_append_3 65 = .ok (.dup_x1, 1) := sorry
theorem dJ8_append_3_66 : decode cJ8_append_3 66 = .ok (.iconst 1, 1) := sorry
theorem dJ8_append_3_67 : decode cJ8_append_3 67 = .ok (.iadd, 1) := sorry
theorem dJ8_append_3_68 : decode cJ8_append_3 68 = .ok (.putfield 79, 3) := sorry
theorem dJ8_append_3_71 : decode cJ8_append_3 71 = .ok (.iload_n 1, 1) := sorry
theorem dJ8_append_3_72 : decode cJ8_append_3 72 = .ok (.invokestatic 197, 3) := sorry
theorem dJ8_append_3_75 : decode cJ8_append_3 75 = .ok (.aload_n 0, 1) := sorry
theorem dJ8_append_3_76 : decode cJ8_append_3 76 = .ok (.areturn, 1) := sorry
abbrev cJ8_setLength : ByteArray := prog_18_method_13_code
def yJ8_setLength : MethodName := ⟨RJ8, "setLength", "(I)V"⟩
def dkwJ8_setLength_3 : List UInt8 := [164, 0, 8, 42, 4, 181, 0, 73, 42, 27, 181, 0, 79, 177]
abbrev dktJ8_setLength_3 : List UInt8 := dkwJ8_setLength_3 ++ []
def dkwJ8_setLength_2 : List UInt8 := [167, 0, 31, 42, 180, 0, 15, 42, 180, 0, 79, 27, 184, 0, 137, 167, 0, 16, 42, 180, 0, 79, 27]
abbrev dktJ8_setLength_2 : List UInt8 := dkwJ8_setLength_2 ++ dktJ8_setLength_3
def dkwJ8_setLength_1 : List UInt8 := [162, 0, 40, 42, 182, 0, 83, 153, 0, 18, 42, 180, 0, 15, 42, 180, 0, 79, 27, 184, 0, 133]
abbrev dktJ8_setLength_1 : List UInt8 := dkwJ8_setLength_1 ++ dktJ8_setLength_2
def dkwJ8_setLength_0 : List UInt8 := [27, 156, 0, 12, 187, 0, 129, 89, 27, 183, 0, 131, 191, 42, 27, 182, 0, 100, 42, 180, 0, 79, 27]
abbrev dktJ8_setLength_0 : List UInt8 := dkwJ8_setLength_0 ++ dktJ8_setLength_1
theorem dksJ8_setLength_0 : cJ8_setLength.data.toList.drop 0 = dktJ8_setLength_0 := sorry
theorem dksJ8_setLength_1 : cJ8_setLength.data.toList.drop 23 = dktJ8_setLength_1 := sorry
theorem dksJ8_setLength_2 : cJ8_setLength.data.toList.drop 45 = dktJ8_setLength_2 := sorry
theorem dksJ8_setLength_3 : cJ8_setLength.data.toList.drop 68 = dktJ8_setLength_3 := sorry
theorem dJ8_setLength_0 : decode cJ8_setLength 0 = .ok (.iload_n 1, 1) := sorry
theorem dJ8_setLength_1 : decode cJ8_setLength 1 = .ok (.ifCond .ge 12, 3) := sorry
theorem dJ8_setLength_4 : decode cJ8_setLength 4 = .ok (.new 129, 3) := sorry
theorem dJ8_setLength_7 : decode cJ8_setLength 7 = .ok (.dup, 1) := sorry
theorem dJ8_setLength_8 : decode cJ8_setLength 8 = .ok (.iload_n 1, 1) := sorry
theorem dJ8_setLength_9 : decode cJ8_setLength 9 = .ok (.invokespecial 131, 3) := sorry
theorem dJ8_setLength_12 : decode cJ8_setLength 12 = .ok (.athrow, 1) := sorry
theorem dJ8_setLength_13 : decode cJ8_setLength 13 = .ok (.aload_n 0, 1) := sorry
theorem dJ8_setLength_14 : decode cJ8_setLength 14 = .ok (.iload_n 1, 1) := sorry
theorem dJ8_setLength_15 : decode cJ8_setLength 15 = .ok (.invokevirtual 100, 3) := sorry
theorem dJ8_setLength_18 : decode cJ8_setLength 18 = .ok (.aload_n 0, 1) := sorry
theorem dJ8_setLength_19 : decode cJ8_setLength 19 = .ok (.getfield 79, 3) := sorry
theorem dJ8_setLength_22 : decode cJ8_setLength 22 = .ok (.iload_n 1, 1) := sorry
theorem dJ8_setLength_23 : decode cJ8_setLength 23 = .ok (.if_icmp .ge 40, 3) := sorry
theorem dJ8_setLength_26 : decode cJ8_setLength 26 = .ok (.aload_n 0, 1) := sorry
theorem dJ8_setLength_27 : decode cJ8_setLength 27 = .ok (.invokevirtual 83, 3) := sorry
theorem dJ8_setLength_30 : decode cJ8_setLength 30 = .ok (.ifCond .eq 18, 3) := sorry
theorem dJ8_setLength_33 : decode cJ8_setLength 33 = .ok (.aload_n 0, 1) := sorry
theorem dJ8_setLength_34 : decode cJ8_setLength 34 = .ok (.getfield 15, 3) := sorry
theorem dJ8_setLength_37 : decode cJ8_setLength 37 = .ok (.aload_n 0, 1) := sorry
theorem dJ8_setLength_38 : decode cJ8_setLength 38 = .ok (.getfield 79, 3) := sorry
theorem dJ8_setLength_41 : decode cJ8_setLength 41 = .ok (.iload_n 1, 1) := sorry
theorem dJ8_setLength_42 : decode cJ8_setLength 42 = .ok (.invokestatic 133, 3) := sorry
theorem dJ8_setLength_45 : decode cJ8_setLength 45 = .ok (.goto 31, 3) := sorry
theorem dJ8_setLength_48 : decode cJ8_setLength 48 = .ok (.aload_n 0, 1) := sorry
theorem dJ8_setLength_49 : decode cJ8_setLength 49 = .ok (.getfield 15, 3) := sorry
theorem dJ8_setLength_52 : decode cJ8_setLength 52 = .ok (.aload_n 0, 1) := sorry
theorem dJ8_setLength_53 : decode cJ8_setLength 53 = .ok (.getfield 79, 3) := sorry
theorem dJ8_setLength_56 : decode cJ8_setLength 56 = .ok (.iload_n 1, 1) := sorry
theorem dJ8_setLength_57 : decode cJ8_setLength 57 = .ok (.invokestatic 137, 3) := sorry
theorem dJ8_setLength_60 : decode cJ8_setLength 60 = .ok (.goto 16, 3) := sorry
theorem dJ8_setLength_63 : decode cJ8_setLength 63 = .ok (.aload_n 0, 1) := sorry
theorem dJ8_setLength_64 : decode cJ8_setLength 64 = .ok (.getfield 79, 3) := sorry
theorem dJ8_setLength_67 : decode cJ8_setLength 67 = .ok (.iload_n 1, 1) := sorry
theorem dJ8_setLength_68 : decode cJ8_setLength 68 = .ok (.if_icmp .le 8, 3) := sorry
theorem dJ8_setLength_71 : decode cJ8_setLength 71 = .ok (.aload_n 0, 1) := sorry
theorem dJ8_setLength_72 : decode cJ8_setLength 72 = .ok (.iconst 1, 1) := sorry
theorem dJ8_setLength_73 : decode cJ8_setLength 73 = .ok (.putfield 73, 3) := sorry
theorem dJ8_setLength_76 : decode cJ8_setLength 76 = .ok (.aload_n 0, 1) := sorry
theorem dJ8_setLength_77 : decode cJ8_setLength 77 = .ok (.iload_n 1, 1) := sorry
theorem dJ8_setLength_78 : decode cJ8_setLength 78 = .ok (.putfield 79, 3) := sorry
theorem dJ8_setLength_81 : decode cJ8_setLength 81 = .ok (.return_, 1) := sorry
theorem q94 : (Jvm.Cond.initialized "java/lang/AbstractStringBuilder") ∈ lw_all := sorry
theorem q232 : (Jvm.Cond.instanceMethod ({ cls := "java/lang/AbstractStringBuilder", name := "<init>", desc := "(I)V" } : Jvm.MethodName)) ∈ lw_all := sorry
theorem q233 : (Jvm.Cond.code ({ cls := "java/lang/AbstractStringBuilder", name := "<init>", desc := "(I)V" } : Jvm.MethodName) prog_18_method_2_code (2 : Nat) (Option.none : Option Jvm.ClassFile.FieldType)) ∈ lw_all := sorry
theorem q234 : (Jvm.Cond.methodLink "java/lang/AbstractStringBuilder" (3 : Nat) ({ cls := "java/lang/Object", name := "<init>", desc := "()V" } : Jvm.MethodName)) ∈ lw_all := sorry
theorem q235 : (Jvm.Cond.fieldLink "java/lang/AbstractStringBuilder" (18 : Nat) "java/lang/String" "COMPACT_STRINGS" "Z") ∈ lw_all := sorry
theorem q237 : (Jvm.Cond.methodLink "java/lang/AbstractStringBuilder" (26 : Nat) ({ cls := "java/lang/StringUTF16", name := "newBytesFor", desc := "(I)[B" } : Jvm.MethodName)) ∈ lw_all := sorry
theorem q244 : (Jvm.Cond.fieldLink "java/lang/AbstractStringBuilder" (15 : Nat) "java/lang/AbstractStringBuilder" "value" "[B") ∈ lw_all := sorry
theorem q245 : (Jvm.Cond.fieldLink "java/lang/AbstractStringBuilder" (22 : Nat) "java/lang/AbstractStringBuilder" "coder" "B") ∈ lw_all := sorry
theorem q246 : (Jvm.Cond.fieldLink "java/lang/AbstractStringBuilder" (73 : Nat) "java/lang/AbstractStringBuilder" "maybeLatin1" "Z") ∈ lw_all := sorry
theorem q248 : (Jvm.Cond.fieldLink "java/lang/AbstractStringBuilder" (79 : Nat) "java/lang/AbstractStringBuilder" "count" "I") ∈ lw_all := sorry
theorem q250 : (Jvm.Cond.soleField "java/lang/AbstractStringBuilder" "value") ∈ lw_all := sorry
theorem q252 : (Jvm.Cond.soleField "java/lang/AbstractStringBuilder" "coder") ∈ lw_all := sorry
theorem q254 : (Jvm.Cond.soleField "java/lang/AbstractStringBuilder" "maybeLatin1") ∈ lw_all := sorry
theorem q256 : (Jvm.Cond.soleField "java/lang/AbstractStringBuilder" "count") ∈ lw_all := sorry
theorem q264 : (Jvm.Cond.instanceMethod ({ cls := "java/lang/AbstractStringBuilder", name := "append", desc := "(Ljava/lang/String;)Ljava/lang/AbstractStringBuilder;" } : Jvm.MethodName)) ∈ lw_all := sorry
theorem q265 : (Jvm.Cond.code ({ cls := "java/lang/AbstractStringBuilder", name := "append", desc := "(Ljava/lang/String;)Ljava/lang/AbstractStringBuilder;" } : Jvm.MethodName) prog_18_method_22_code (3 : Nat) (Option.some (Jvm.ClassFile.FieldType.object "java/lang/AbstractStringBuilder"))) ∈ lw_all := sorry
theorem q266 : (Jvm.Cond.methodLink "java/lang/AbstractStringBuilder" (204 : Nat) ({ cls := "java/lang/AbstractStringBuilder", name := "appendNull", desc := "()Ljava/lang/AbstractStringBuilder;" } : Jvm.MethodName)) ∈ lw_all := sorry
theorem q267 : (Jvm.Cond.privateMethod ({ cls := "java/lang/AbstractStringBuilder", name := "appendNull", desc := "()Ljava/lang/AbstractStringBuilder;" } : Jvm.MethodName)) ∈ lw_tbl := sorry
theorem q268 : (Jvm.Cond.instanceMethod ({ cls := "java/lang/AbstractStringBuilder", name := "appendNull", desc := "()Ljava/lang/AbstractStringBuilder;" } : Jvm.MethodName)) ∈ lw_all := sorry
theorem q269 : (Jvm.Cond.code ({ cls := "java/lang/AbstractStringBuilder", name := "appendNull", desc := "()Ljava/lang/AbstractStringBuilder;" } : Jvm.MethodName) prog_18_method_26_code (3 : Nat) (Option.some (Jvm.ClassFile.FieldType.object "java/lang/AbstractStringBuilder"))) ∈ lw_all := sorry
theorem q270 : (Jvm.Cond.methodLink "java/lang/AbstractStringBuilder" (100 : Nat) ({ cls := "java/lang/AbstractStringBuilder", name := "ensureCapacityInternal", desc := "(I)V" } : Jvm.MethodName)) ∈ lw_all := sorry
theorem q271 : (Jvm.Cond.privateMethod ({ cls := "java/lang/AbstractStringBuilder", name := "ensureCapacityInternal", desc := "(I)V" } : Jvm.MethodName)) ∈ lw_tbl := sorry
theorem q272 : (Jvm.Cond.instanceMethod ({ cls := "java/lang/AbstractStringBuilder", name := "ensureCapacityInternal", desc := "(I)V" } : Jvm.MethodName)) ∈ lw_all := sorry
theorem q273 : (Jvm.Cond.code ({ cls := "java/lang/AbstractStringBuilder", name := "ensureCapacityInternal", desc := "(I)V" } : Jvm.MethodName) prog_18_method_9_code (3 : Nat) (Option.none : Option Jvm.ClassFile.FieldType)) ∈ lw_all := sorry
theorem q274 : (Jvm.Cond.methodLink "java/lang/AbstractStringBuilder" (104 : Nat) ({ cls := "java/lang/AbstractStringBuilder", name := "newCapacity", desc := "(I)I" } : Jvm.MethodName)) ∈ lw_all := sorry
theorem q275 : (Jvm.Cond.privateMethod ({ cls := "java/lang/AbstractStringBuilder", name := "newCapacity", desc := "(I)I" } : Jvm.MethodName)) ∈ lw_tbl := sorry
theorem q276 : (Jvm.Cond.instanceMethod ({ cls := "java/lang/AbstractStringBuilder", name := "newCapacity", desc := "(I)I" } : Jvm.MethodName)) ∈ lw_all := sorry
theorem q277 : (Jvm.Cond.code ({ cls := "java/lang/AbstractStringBuilder", name := "newCapacity", desc := "(I)I" } : Jvm.MethodName) prog_18_method_10_code (6 : Nat) (Option.some Jvm.ClassFile.FieldType.int)) ∈ lw_all := sorry
theorem q278 : (Jvm.Cond.methodLink "java/lang/AbstractStringBuilder" (114 : Nat) ({ cls := "jdk/internal/util/ArraysSupport", name := "newLength", desc := "(III)I" } : Jvm.MethodName)) ∈ lw_all := sorry
theorem q288 : (Jvm.Cond.constant "java/lang/AbstractStringBuilder" (39 : Nat) (2147483647 : Int32)) ∈ lw_all := sorry
theorem q289 : (Jvm.Cond.methodLink "java/lang/AbstractStringBuilder" (108 : Nat) ({ cls := "java/util/Arrays", name := "copyOf", desc := "([BI)[B" } : Jvm.MethodName)) ∈ lw_all := sorry
theorem q305 : (Jvm.Cond.methodLink "java/lang/AbstractStringBuilder" (83 : Nat) ({ cls := "java/lang/AbstractStringBuilder", name := "isLatin1", desc := "()Z" } : Jvm.MethodName)) ∈ lw_all := sorry
theorem q306 : (Jvm.Cond.instanceMethod ({ cls := "java/lang/AbstractStringBuilder", name := "isLatin1", desc := "()Z" } : Jvm.MethodName)) ∈ lw_all := sorry
theorem q307 : (Jvm.Cond.sameMethod "java/lang/AbstractStringBuilder" "java/lang/AbstractStringBuilder" "isLatin1" "()Z") ∈ lw_all := sorry
theorem q309 : (Jvm.Cond.code ({ cls := "java/lang/AbstractStringBuilder", name := "isLatin1", desc := "()Z" } : Jvm.MethodName) prog_18_method_68_code (1 : Nat) (Option.some Jvm.ClassFile.FieldType.boolean)) ∈ lw_all := sorry
theorem q310 : (Jvm.Cond.methodLink "java/lang/AbstractStringBuilder" (226 : Nat) ({ cls := "java/lang/StringUTF16", name := "putCharsAt", desc := "([BICCCC)I" } : Jvm.MethodName)) ∈ lw_all := sorry
theorem q336 : (Jvm.Cond.methodLink "java/lang/AbstractStringBuilder" (32 : Nat) ({ cls := "java/lang/String", name := "length", desc := "()I" } : Jvm.MethodName)) ∈ lw_all := sorry
theorem q345 : (Jvm.Cond.methodLink "java/lang/AbstractStringBuilder" (208 : Nat) ({ cls := "java/lang/AbstractStringBuilder", name := "putStringAt", desc := "(ILjava/lang/String;)V" } : Jvm.MethodName)) ∈ lw_all := sorry
theorem q346 : (Jvm.Cond.privateMethod ({ cls := "java/lang/AbstractStringBuilder", name := "putStringAt", desc := "(ILjava/lang/String;)V" } : Jvm.MethodName)) ∈ lw_tbl := sorry
theorem q347 : (Jvm.Cond.instanceMethod ({ cls := "java/lang/AbstractStringBuilder", name := "putStringAt", desc := "(ILjava/lang/String;)V" } : Jvm.MethodName)) ∈ lw_all := sorry
theorem q348 : (Jvm.Cond.code ({ cls := "java/lang/AbstractStringBuilder", name := "putStringAt", desc := "(ILjava/lang/String;)V" } : Jvm.MethodName) prog_18_method_73_code (3 : Nat) (Option.none : Option Jvm.ClassFile.FieldType)) ∈ lw_all := sorry
theorem q349 : (Jvm.Cond.methodLink "java/lang/AbstractStringBuilder" (397 : Nat) ({ cls := "java/lang/AbstractStringBuilder", name := "inflateIfNeededFor", desc := "(Ljava/lang/String;)V" } : Jvm.MethodName)) ∈ lw_all := sorry
theorem q350 : (Jvm.Cond.privateMethod ({ cls := "java/lang/AbstractStringBuilder", name := "inflateIfNeededFor", desc := "(Ljava/lang/String;)V" } : Jvm.MethodName)) ∈ lw_tbl := sorry
theorem q351 : (Jvm.Cond.instanceMethod ({ cls := "java/lang/AbstractStringBuilder", name := "inflateIfNeededFor", desc := "(Ljava/lang/String;)V" } : Jvm.MethodName)) ∈ lw_all := sorry
theorem q352 : (Jvm.Cond.code ({ cls := "java/lang/AbstractStringBuilder", name := "inflateIfNeededFor", desc := "(Ljava/lang/String;)V" } : Jvm.MethodName) prog_18_method_71_code (2 : Nat) (Option.none : Option Jvm.ClassFile.FieldType)) ∈ lw_all := sorry
theorem q353 : (Jvm.Cond.methodLink "java/lang/AbstractStringBuilder" (40 : Nat) ({ cls := "java/lang/String", name := "coder", desc := "()B" } : Jvm.MethodName)) ∈ lw_all := sorry
theorem q354 : (Jvm.Cond.methodLink "java/lang/AbstractStringBuilder" (195 : Nat) ({ cls := "java/lang/AbstractStringBuilder", name := "inflate", desc := "()V" } : Jvm.MethodName)) ∈ lw_all := sorry
theorem q355 : (Jvm.Cond.privateMethod ({ cls := "java/lang/AbstractStringBuilder", name := "inflate", desc := "()V" } : Jvm.MethodName)) ∈ lw_tbl := sorry
theorem q356 : (Jvm.Cond.instanceMethod ({ cls := "java/lang/AbstractStringBuilder", name := "inflate", desc := "()V" } : Jvm.MethodName)) ∈ lw_all := sorry
theorem q357 : (Jvm.Cond.code ({ cls := "java/lang/AbstractStringBuilder", name := "inflate", desc := "()V" } : Jvm.MethodName) prog_18_method_11_code (2 : Nat) (Option.none : Option Jvm.ClassFile.FieldType)) ∈ lw_all := sorry
theorem q358 : (Jvm.Cond.methodLink "java/lang/AbstractStringBuilder" (125 : Nat) ({ cls := "java/lang/StringLatin1", name := "inflate", desc := "([BI[BII)V" } : Jvm.MethodName)) ∈ lw_all := sorry
theorem q373 : (Jvm.Cond.methodLink "java/lang/AbstractStringBuilder" (399 : Nat) ({ cls := "java/lang/String", name := "getBytes", desc := "([BIB)V" } : Jvm.MethodName)) ∈ lw_all := sorry
theorem q384 : (Jvm.Cond.instanceMethod ({ cls := "java/lang/AbstractStringBuilder", name := "append", desc := "(I)Ljava/lang/AbstractStringBuilder;" } : Jvm.MethodName)) ∈ lw_all := sorry
theorem q385 : (Jvm.Cond.code ({ cls := "java/lang/AbstractStringBuilder", name := "append", desc := "(I)Ljava/lang/AbstractStringBuilder;" } : Jvm.MethodName) prog_18_method_32_code (4 : Nat) (Option.some (Jvm.ClassFile.FieldType.object "java/lang/AbstractStringBuilder"))) ∈ lw_all := sorry
theorem q386 : (Jvm.Cond.methodLink "java/lang/AbstractStringBuilder" (245 : Nat) ({ cls := "java/lang/Integer", name := "stringSize", desc := "(I)I" } : Jvm.MethodName)) ∈ lw_all := sorry
theorem q389 : (Jvm.Cond.methodLink "java/lang/AbstractStringBuilder" (248 : Nat) ({ cls := "java/lang/Integer", name := "getChars", desc := "(II[B)I" } : Jvm.MethodName)) ∈ lw_all := sorry
theorem q396 : (Jvm.Cond.methodLink "java/lang/AbstractStringBuilder" (251 : Nat) ({ cls := "java/lang/StringUTF16", name := "getChars", desc := "(III[B)I" } : Jvm.MethodName)) ∈ lw_all := sorry
theorem q418 : (Jvm.Cond.instanceMethod ({ cls := "java/lang/AbstractStringBuilder", name := "getValue", desc := "()[B" } : Jvm.MethodName)) ∈ lw_all := sorry
theorem q419 : (Jvm.Cond.sameMethod "java/lang/AbstractStringBuilder" "java/lang/AbstractStringBuilder" "getValue" "()[B") ∈ lw_all := sorry
theorem q421 : (Jvm.Cond.code ({ cls := "java/lang/AbstractStringBuilder", name := "getValue", desc := "()[B" } : Jvm.MethodName) prog_18_method_64_code (1 : Nat) (Option.some (Jvm.ClassFile.FieldType.array Jvm.ClassFile.FieldType.byte))) ∈ lw_all := sorry
theorem q423 : (Jvm.Cond.instanceMethod ({ cls := "java/lang/AbstractStringBuilder", name := "length", desc := "()I" } : Jvm.MethodName)) ∈ lw_all := sorry
theorem q424 : (Jvm.Cond.sameMethod "java/lang/AbstractStringBuilder" "java/lang/AbstractStringBuilder" "length" "()I") ∈ lw_all := sorry
theorem q429 : (Jvm.Cond.code ({ cls := "java/lang/AbstractStringBuilder", name := "length", desc := "()I" } : Jvm.MethodName) prog_18_method_6_code (1 : Nat) (Option.some Jvm.ClassFile.FieldType.int)) ∈ lw_all := sorry
theorem q1011 : (Jvm.Cond.instanceMethod ({ cls := "java/lang/AbstractStringBuilder", name := "charAt", desc := "(I)C" } : Jvm.MethodName)) ∈ lw_all := sorry
theorem q1012 : (Jvm.Cond.code ({ cls := "java/lang/AbstractStringBuilder", name := "charAt", desc := "(I)C" } : Jvm.MethodName) prog_18_method_14_code (5 : Nat) (Option.some Jvm.ClassFile.FieldType.char)) ∈ lw_all := sorry
theorem q1013 : (Jvm.Cond.methodLink "java/lang/AbstractStringBuilder" (138 : Nat) ({ cls := "java/lang/Math", name := "min", desc := "(II)I" } : Jvm.MethodName)) ∈ lw_all := sorry
theorem q1014 : (Jvm.Cond.methodLink "java/lang/AbstractStringBuilder" (144 : Nat) ({ cls := "java/lang/String", name := "checkIndex", desc := "(II)V" } : Jvm.MethodName)) ∈ lw_all := sorry
theorem q1018 : (Jvm.Cond.methodLink "java/lang/AbstractStringBuilder" (148 : Nat) ({ cls := "java/lang/StringUTF16", name := "getChar", desc := "([BI)C" } : Jvm.MethodName)) ∈ lw_all := sorry
theorem q1077 : (Jvm.Cond.instanceMethod ({ cls := "java/lang/AbstractStringBuilder", name := "append", desc := "(C)Ljava/lang/AbstractStringBuilder;" } : Jvm.MethodName)) ∈ lw_all := sorry
theorem q1078 : (Jvm.Cond.code ({ cls := "java/lang/AbstractStringBuilder", name := "append", desc := "(C)Ljava/lang/AbstractStringBuilder;" } : Jvm.MethodName) prog_18_method_31_code (2 : Nat) (Option.some (Jvm.ClassFile.FieldType.object "java/lang/AbstractStringBuilder"))) ∈ lw_all := sorry
theorem q1079 : (Jvm.Cond.methodLink "java/lang/AbstractStringBuilder" (191 : Nat) ({ cls := "java/lang/StringLatin1", name := "canEncode", desc := "(C)Z" } : Jvm.MethodName)) ∈ lw_all := sorry
theorem q1082 : (Jvm.Cond.methodLink "java/lang/AbstractStringBuilder" (197 : Nat) ({ cls := "java/lang/StringUTF16", name := "putCharSB", desc := "([BII)V" } : Jvm.MethodName)) ∈ lw_all := sorry
theorem q1963 : (Jvm.Cond.instanceMethod ({ cls := "java/lang/AbstractStringBuilder", name := "setLength", desc := "(I)V" } : Jvm.MethodName)) ∈ lw_all := sorry
theorem q1964 : (Jvm.Cond.code ({ cls := "java/lang/AbstractStringBuilder", name := "setLength", desc := "(I)V" } : Jvm.MethodName) prog_18_method_13_code (2 : Nat) (Option.none : Option Jvm.ClassFile.FieldType)) ∈ lw_all := sorry
theorem q1965 : (Jvm.Cond.classLink "java/lang/AbstractStringBuilder" (129 : Nat) "java/lang/StringIndexOutOfBoundsException") ∈ lw_all := sorry
theorem q1967 : (Jvm.Cond.methodLink "java/lang/AbstractStringBuilder" (131 : Nat) ({ cls := "java/lang/StringIndexOutOfBoundsException", name := "<init>", desc := "(I)V" } : Jvm.MethodName)) ∈ lw_all := sorry
theorem q1984 : (Jvm.Cond.methodLink "java/lang/AbstractStringBuilder" (133 : Nat) ({ cls := "java/lang/StringLatin1", name := "fillNull", desc := "([BII)V" } : Jvm.MethodName)) ∈ lw_all := sorry
theorem q2006 : (Jvm.Cond.methodLink "java/lang/AbstractStringBuilder" (137 : Nat) ({ cls := "java/lang/StringUTF16", name := "fillNull", desc := "([BII)V" } : Jvm.MethodName)) ∈ lw_all := sorry
theorem q2619 : (Jvm.Cond.sameMethod "java/lang/AbstractStringBuilder" "java/lang/AbstractStringBuilder" "append" "(Ljava/lang/String;)Ljava/lang/AbstractStringBuilder;") ∈ lw_all := sorry
theorem q2620 : (Jvm.Cond.sameMethod "java/lang/AbstractStringBuilder" "java/lang/AbstractStringBuilder" "appendNull" "()Ljava/lang/AbstractStringBuilder;") ∈ lw_all := sorry
theorem q2621 : (Jvm.Cond.sameMethod "java/lang/AbstractStringBuilder" "java/lang/AbstractStringBuilder" "ensureCapacityInternal" "(I)V") ∈ lw_all := sorry
theorem q2622 : (Jvm.Cond.sameMethod "java/lang/AbstractStringBuilder" "java/lang/AbstractStringBuilder" "newCapacity" "(I)I") ∈ lw_all := sorry
theorem q2623 : (Jvm.Cond.sameMethod "java/lang/AbstractStringBuilder" "java/lang/AbstractStringBuilder" "putStringAt" "(ILjava/lang/String;)V") ∈ lw_all := sorry
theorem q2624 : (Jvm.Cond.sameMethod "java/lang/AbstractStringBuilder" "java/lang/AbstractStringBuilder" "inflateIfNeededFor" "(Ljava/lang/String;)V") ∈ lw_all := sorry
theorem q2625 : (Jvm.Cond.sameMethod "java/lang/AbstractStringBuilder" "java/lang/AbstractStringBuilder" "inflate" "()V") ∈ lw_all := sorry
theorem q2626 : (Jvm.Cond.sameMethod "java/lang/AbstractStringBuilder" "java/lang/AbstractStringBuilder" "append" "(I)Ljava/lang/AbstractStringBuilder;") ∈ lw_all := sorry
theorem q2628 : (Jvm.Cond.sameMethod "java/lang/AbstractStringBuilder" "java/lang/AbstractStringBuilder" "charAt" "(I)C") ∈ lw_all := sorry
theorem q2629 : (Jvm.Cond.sameMethod "java/lang/AbstractStringBuilder" "java/lang/AbstractStringBuilder" "append" "(C)Ljava/lang/AbstractStringBuilder;") ∈ lw_all := sorry
theorem q2630 : (Jvm.Cond.sameMethod "java/lang/AbstractStringBuilder" "java/lang/AbstractStringBuilder" "setLength" "(I)V") ∈ lw_all := sorry
/-! java/lang/StringBuilder -/
set_option maxRecDepth 100000
def RJ9 : String := "java/lang/StringBuilder"
def TJ9 : u_T := fun k => match k with
  | 0 => ("java/lang/AbstractStringBuilder", "value", "[B", false)
  | 1 => ("java/lang/AbstractStringBuilder", "coder", "B", false)
  | 2 => ("java/lang/AbstractStringBuilder", "maybeLatin1", "Z", false)
  | _ => ("java/lang/AbstractStringBuilder", "count", "I", false)
def tyJ9 : Nat → FieldType := fun k => match k with
  | 0 => .array .byte
  | 1 => .byte
  | 2 => .boolean
  | _ => .int
abbrev wsJ90 : List Cond := u_ws RJ9 TJ9 4
theorem nmJ9 : ∀ a, a < 4 → ∀ b, b < 4 → a ≠ b → (TJ9 a).2.1 ≠ (TJ9 b).2.1 := sorry
theorem tyJ9_ok : ∀ k, k < 4 → parseFieldDescriptor (TJ9 k).2.2.1 = some (tyJ9 k) := sorry
abbrev cJ9_init : ByteArray := prog_35_method_1_code
def yJ9_init : MethodName := ⟨RJ9, "<init>", "()V"⟩
def dkwJ9_init_0 : List UInt8 := [42, 16, 16, 183, 0, 1, 177]
abbrev dktJ9_init_0 : List UInt8 := dkwJ9_init_0 ++ []
theorem dksJ9_init_0 : cJ9_init.data.toList.drop 0 = dktJ9_init_0 := sorry
theorem dJ9_init_0 : decode cJ9_init 0 = .ok (.aload_n 0, 1) := sorry
theorem dJ9_init_1 : decode cJ9_init 1 = .ok (.bipush 16, 2) := sorry
theorem dJ9_init_3 : decode cJ9_init 3 = .ok (.invokespecial 1, 3) := sorry
theorem dJ9_init_6 : decode cJ9_init 6 = .ok (.return_, 1) := sorry
abbrev cJ9_append : ByteArray := prog_35_method_7_code
def yJ9_append : MethodName := ⟨RJ9, "append", "(Ljava/lang/String;)Ljava/lang/StringBuilder;"⟩
def dkwJ9_append_0 : List UInt8 := [42, 43, 183, 0, 29, 87, 42, 176]
abbrev dktJ9_append_0 : List UInt8 := dkwJ9_append_0 ++ []
theorem dksJ9_append_0 : cJ9_append.data.toList.drop 0 = dktJ9_append_0 := sorry
theorem dJ9_append_0 : decode cJ9_append 0 = .ok (.aload_n 0, 1) := sorry
theorem dJ9_append_1 : decode cJ9_append 1 = .ok (.aload_n 1, 1) := sorry
theorem dJ9_append_2 : decode cJ9_append 2 = .ok (.invokespecial 29, 3) := sorry
theorem dJ9_append_5 : decode cJ9_append 5 = .ok (.pop, 1) := sorry
theorem dJ9_append_6 : decode cJ9_append 6 = .ok (.aload_n 0, 1) := sorry
theorem dJ9_append_7 : decode cJ9_append 7 = .ok (.areturn, 1) := sorry
abbrev cJ9_append_2 : ByteArray := prog_35_method_15_code
def yJ9_append_2 : MethodName := ⟨RJ9, "append", "(I)Ljava/lang/StringBuilder;"⟩
def dkwJ9_append_2_0 : List UInt8 := [42, 27, 183, 0, 53, 87, 42, 176]
abbrev dktJ9_append_2_0 : List UInt8 := dkwJ9_append_2_0 ++ []
theorem dksJ9_append_2_0 : cJ9_append_2.data.toList.drop 0 = dktJ9_append_2_0 := sorry
theorem dJ9_append_2_0 : decode cJ9_append_2 0 = .ok (.aload_n 0, 1) := sorry
theorem dJ9_append_2_1 : decode cJ9_append_2 1 = .ok (.iload_n 1, 1) := sorry
theorem dJ9_append_2_2 : decode cJ9_append_2 2 = .ok (.invokespecial 53, 3) := sorry
theorem dJ9_append_2_5 : decode cJ9_append_2 5 = .ok (.pop, 1) := sorry
theorem dJ9_append_2_6 : decode cJ9_append_2 6 = .ok (.aload_n 0, 1) := sorry
theorem dJ9_append_2_7 : decode cJ9_append_2 7 = .ok (.areturn, 1) := sorry
abbrev cJ9_toString : ByteArray := prog_35_method_42_code
def yJ9_toString : MethodName := ⟨RJ9, "toString", "()Ljava/lang/String;"⟩
def dkwJ9_toString_0 : List UInt8 := [187, 0, 18, 89, 42, 183, 0, 137, 176]
abbrev dktJ9_toString_0 : List UInt8 := dkwJ9_toString_0 ++ []
theorem dksJ9_toString_0 : cJ9_toString.data.toList.drop 0 = dktJ9_toString_0 := sorry
theorem dJ9_toString_0 : decode cJ9_toString 0 = .ok (.new 18, 3) := sorry
theorem dJ9_toString_3 : decode cJ9_toString 3 = .ok (.dup, 1) := sorry
theorem dJ9_toString_4 : decode cJ9_toString 4 = .ok (.aload_n 0, 1) := sorry
theorem dJ9_toString_5 : decode cJ9_toString 5 = .ok (.invokespecial 137, 3) := sorry
theorem dJ9_toString_8 : decode cJ9_toString 8 = .ok (.areturn, 1) := sorry
abbrev cJ9_length : ByteArray := prog_35_method_93_code
def yJ9_length : MethodName := ⟨RJ9, "length", "()I"⟩
theorem dJ9_length_0 : decode cJ9_length 0 = .ok (.aload_n 0, 1) := sorry
theorem dJ9_length_1 : decode cJ9_length 1 = .ok (.invokespecial 343, 3) := sorry
theorem dJ9_length_4 : decode cJ9_length 4 = .ok (.ireturn, 1) := sorry
abbrev cJ9_charAt : ByteArray := prog_35_method_88_code
def yJ9_charAt : MethodName := ⟨RJ9, "charAt", "(I)C"⟩
def dkwJ9_charAt_0 : List UInt8 := [42, 27, 183, 1, 73, 172]
abbrev dktJ9_charAt_0 : List UInt8 := dkwJ9_charAt_0 ++ []
theorem dksJ9_charAt_0 : cJ9_charAt.data.toList.drop 0 = dktJ9_charAt_0 := sorry
theorem dJ9_charAt_0 : decode cJ9_charAt 0 = .ok (.aload_n 0, 1) := sorry
theorem dJ9_charAt_1 : decode cJ9_charAt 1 = .ok (.iload_n 1, 1) := sorry
theorem dJ9_charAt_2 : decode cJ9_charAt 2 = .ok (.invokespecial 329, 3) := sorry
theorem dJ9_charAt_5 : decode cJ9_charAt 5 = .ok (.ireturn, 1) := sorry
abbrev cJ9_append_3 : ByteArray := prog_35_method_14_code
def yJ9_append_3 : MethodName := ⟨RJ9, "append", "(C)Ljava/lang/StringBuilder;"⟩
def dkwJ9_append_3_0 : List UInt8 := [42, 27, 183, 0, 50, 87, 42, 176]
abbrev dktJ9_append_3_0 : List UInt8 := dkwJ9_append_3_0 ++ []
theorem dksJ9_append_3_0 : cJ9_append_3.data.toList.drop 0 = dktJ9_append_3_0 := sorry
theorem dJ9_append_3_0 : decode cJ9_append_3 0 = .ok (.aload_n 0, 1) := sorry
theorem dJ9_append_3_1 : decode cJ9_append_3 1 = .ok (.iload_n 1, 1) := sorry
theorem dJ9_append_3_2 : decode cJ9_append_3 2 = .ok (.invokespecial 50, 3) := sorry
theorem dJ9_append_3_5 : decode cJ9_append_3 5 = .ok (.pop, 1) := sorry
theorem dJ9_append_3_6 : decode cJ9_append_3 6 = .ok (.aload_n 0, 1) := sorry
theorem dJ9_append_3_7 : decode cJ9_append_3 7 = .ok (.areturn, 1) := sorry
abbrev cJ9_setLength : ByteArray := prog_35_method_89_code
def yJ9_setLength : MethodName := ⟨RJ9, "setLength", "(I)V"⟩
def dkwJ9_setLength_0 : List UInt8 := [42, 27, 183, 1, 77, 177]
abbrev dktJ9_setLength_0 : List UInt8 := dkwJ9_setLength_0 ++ []
theorem dksJ9_setLength_0 : cJ9_setLength.data.toList.drop 0 = dktJ9_setLength_0 := sorry
theorem dJ9_setLength_0 : decode cJ9_setLength 0 = .ok (.aload_n 0, 1) := sorry
theorem dJ9_setLength_1 : decode cJ9_setLength 1 = .ok (.iload_n 1, 1) := sorry
theorem dJ9_setLength_2 : decode cJ9_setLength 2 = .ok (.invokespecial 333, 3) := sorry
theorem dJ9_setLength_5 : decode cJ9_setLength 5 = .ok (.return_, 1) := sorry
theorem q95 : (Jvm.Cond.initialized "java/lang/StringBuilder") ∈ lw_all := sorry
theorem q227 : (Jvm.Cond.instantiable "java/lang/StringBuilder" (4 : Nat)) ∈ lw_all := sorry
theorem q229 : (Jvm.Cond.instanceMethod ({ cls := "java/lang/StringBuilder", name := "<init>", desc := "()V" } : Jvm.MethodName)) ∈ lw_all := sorry
theorem q230 : (Jvm.Cond.code ({ cls := "java/lang/StringBuilder", name := "<init>", desc := "()V" } : Jvm.MethodName) prog_35_method_1_code (1 : Nat) (Option.none : Option Jvm.ClassFile.FieldType)) ∈ lw_all := sorry
theorem q231 : (Jvm.Cond.methodLink "java/lang/StringBuilder" (1 : Nat) ({ cls := "java/lang/AbstractStringBuilder", name := "<init>", desc := "(I)V" } : Jvm.MethodName)) ∈ lw_all := sorry
theorem q249 : (Jvm.Cond.lays "java/lang/StringBuilder" "java/lang/AbstractStringBuilder" "value" "[B") ∈ lw_all := sorry
theorem q251 : (Jvm.Cond.lays "java/lang/StringBuilder" "java/lang/AbstractStringBuilder" "coder" "B") ∈ lw_all := sorry
theorem q253 : (Jvm.Cond.lays "java/lang/StringBuilder" "java/lang/AbstractStringBuilder" "maybeLatin1" "Z") ∈ lw_all := sorry
theorem q255 : (Jvm.Cond.lays "java/lang/StringBuilder" "java/lang/AbstractStringBuilder" "count" "I") ∈ lw_all := sorry
theorem q257 : (Jvm.Cond.superclass "java/lang/StringBuilder" "java/lang/AbstractStringBuilder") ∈ lw_all := sorry
theorem q260 : (Jvm.Cond.instanceMethod ({ cls := "java/lang/StringBuilder", name := "append", desc := "(Ljava/lang/String;)Ljava/lang/StringBuilder;" } : Jvm.MethodName)) ∈ lw_all := sorry
theorem q261 : (Jvm.Cond.selects "java/lang/StringBuilder" ({ cls := "java/lang/StringBuilder", name := "append", desc := "(Ljava/lang/String;)Ljava/lang/StringBuilder;" } : Jvm.MethodName) ({ cls := "java/lang/StringBuilder", name := "append", desc := "(Ljava/lang/String;)Ljava/lang/StringBuilder;" } : Jvm.MethodName)) ∈ lw_all := sorry
theorem q262 : (Jvm.Cond.code ({ cls := "java/lang/StringBuilder", name := "append", desc := "(Ljava/lang/String;)Ljava/lang/StringBuilder;" } : Jvm.MethodName) prog_35_method_7_code (2 : Nat) (Option.some (Jvm.ClassFile.FieldType.object "java/lang/StringBuilder"))) ∈ lw_all := sorry
theorem q263 : (Jvm.Cond.methodLink "java/lang/StringBuilder" (29 : Nat) ({ cls := "java/lang/AbstractStringBuilder", name := "append", desc := "(Ljava/lang/String;)Ljava/lang/AbstractStringBuilder;" } : Jvm.MethodName)) ∈ lw_all := sorry
theorem q308 : (Jvm.Cond.selects "java/lang/StringBuilder" ({ cls := "java/lang/AbstractStringBuilder", name := "isLatin1", desc := "()Z" } : Jvm.MethodName) ({ cls := "java/lang/AbstractStringBuilder", name := "isLatin1", desc := "()Z" } : Jvm.MethodName)) ∈ lw_all := sorry
theorem q380 : (Jvm.Cond.instanceMethod ({ cls := "java/lang/StringBuilder", name := "append", desc := "(I)Ljava/lang/StringBuilder;" } : Jvm.MethodName)) ∈ lw_all := sorry
theorem q381 : (Jvm.Cond.selects "java/lang/StringBuilder" ({ cls := "java/lang/StringBuilder", name := "append", desc := "(I)Ljava/lang/StringBuilder;" } : Jvm.MethodName) ({ cls := "java/lang/StringBuilder", name := "append", desc := "(I)Ljava/lang/StringBuilder;" } : Jvm.MethodName)) ∈ lw_all := sorry
theorem q382 : (Jvm.Cond.code ({ cls := "java/lang/StringBuilder", name := "append", desc := "(I)Ljava/lang/StringBuilder;" } : Jvm.MethodName) prog_35_method_15_code (2 : Nat) (Option.some (Jvm.ClassFile.FieldType.object "java/lang/StringBuilder"))) ∈ lw_all := sorry
theorem q383 : (Jvm.Cond.methodLink "java/lang/StringBuilder" (53 : Nat) ({ cls := "java/lang/AbstractStringBuilder", name := "append", desc := "(I)Ljava/lang/AbstractStringBuilder;" } : Jvm.MethodName)) ∈ lw_all := sorry
theorem q405 : (Jvm.Cond.instanceMethod ({ cls := "java/lang/StringBuilder", name := "toString", desc := "()Ljava/lang/String;" } : Jvm.MethodName)) ∈ lw_all := sorry
theorem q406 : (Jvm.Cond.selects "java/lang/StringBuilder" ({ cls := "java/lang/StringBuilder", name := "toString", desc := "()Ljava/lang/String;" } : Jvm.MethodName) ({ cls := "java/lang/StringBuilder", name := "toString", desc := "()Ljava/lang/String;" } : Jvm.MethodName)) ∈ lw_all := sorry
theorem q407 : (Jvm.Cond.code ({ cls := "java/lang/StringBuilder", name := "toString", desc := "()Ljava/lang/String;" } : Jvm.MethodName) prog_35_method_42_code (1 : Nat) (Option.some (Jvm.ClassFile.FieldType.object "java/lang/String"))) ∈ lw_all := sorry
theorem q408 : (Jvm.Cond.classLink "java/lang/StringBuilder" (18 : Nat) "java/lang/String") ∈ lw_all := sorry
theorem q410 : (Jvm.Cond.methodLink "java/lang/StringBuilder" (137 : Nat) ({ cls := "java/lang/String", name := "<init>", desc := "(Ljava/lang/StringBuilder;)V" } : Jvm.MethodName)) ∈ lw_all := sorry
theorem q420 : (Jvm.Cond.selects "java/lang/StringBuilder" ({ cls := "java/lang/AbstractStringBuilder", name := "getValue", desc := "()[B" } : Jvm.MethodName) ({ cls := "java/lang/AbstractStringBuilder", name := "getValue", desc := "()[B" } : Jvm.MethodName)) ∈ lw_all := sorry
theorem q425 : (Jvm.Cond.selects "java/lang/StringBuilder" ({ cls := "java/lang/AbstractStringBuilder", name := "length", desc := "()I" } : Jvm.MethodName) ({ cls := "java/lang/StringBuilder", name := "length", desc := "()I" } : Jvm.MethodName)) ∈ lw_all := sorry
theorem q426 : (Jvm.Cond.instanceMethod ({ cls := "java/lang/StringBuilder", name := "length", desc := "()I" } : Jvm.MethodName)) ∈ lw_all := sorry
theorem q427 : (Jvm.Cond.code ({ cls := "java/lang/StringBuilder", name := "length", desc := "()I" } : Jvm.MethodName) prog_35_method_93_code (1 : Nat) (Option.some Jvm.ClassFile.FieldType.int)) ∈ lw_all := sorry
theorem q428 : (Jvm.Cond.methodLink "java/lang/StringBuilder" (343 : Nat) ({ cls := "java/lang/AbstractStringBuilder", name := "length", desc := "()I" } : Jvm.MethodName)) ∈ lw_all := sorry
theorem q1007 : (Jvm.Cond.instanceMethod ({ cls := "java/lang/StringBuilder", name := "charAt", desc := "(I)C" } : Jvm.MethodName)) ∈ lw_all := sorry
theorem q1008 : (Jvm.Cond.selects "java/lang/StringBuilder" ({ cls := "java/lang/StringBuilder", name := "charAt", desc := "(I)C" } : Jvm.MethodName) ({ cls := "java/lang/StringBuilder", name := "charAt", desc := "(I)C" } : Jvm.MethodName)) ∈ lw_all := sorry
theorem q1009 : (Jvm.Cond.code ({ cls := "java/lang/StringBuilder", name := "charAt", desc := "(I)C" } : Jvm.MethodName) prog_35_method_88_code (2 : Nat) (Option.some Jvm.ClassFile.FieldType.char)) ∈ lw_all := sorry
theorem q1010 : (Jvm.Cond.methodLink "java/lang/StringBuilder" (329 : Nat) ({ cls := "java/lang/AbstractStringBuilder", name := "charAt", desc := "(I)C" } : Jvm.MethodName)) ∈ lw_all := sorry
theorem q1073 : (Jvm.Cond.instanceMethod ({ cls := "java/lang/StringBuilder", name := "append", desc := "(C)Ljava/lang/StringBuilder;" } : Jvm.MethodName)) ∈ lw_all := sorry
theorem q1074 : (Jvm.Cond.selects "java/lang/StringBuilder" ({ cls := "java/lang/StringBuilder", name := "append", desc := "(C)Ljava/lang/StringBuilder;" } : Jvm.MethodName) ({ cls := "java/lang/StringBuilder", name := "append", desc := "(C)Ljava/lang/StringBuilder;" } : Jvm.MethodName)) ∈ lw_all := sorry
theorem q1075 : (Jvm.Cond.code ({ cls := "java/lang/StringBuilder", name := "append", desc := "(C)Ljava/lang/StringBuilder;" } : Jvm.MethodName) prog_35_method_14_code (2 : Nat) (Option.some (Jvm.ClassFile.FieldType.object "java/lang/StringBuilder"))) ∈ lw_all := sorry
theorem q1076 : (Jvm.Cond.methodLink "java/lang/StringBuilder" (50 : Nat) ({ cls := "java/lang/AbstractStringBuilder", name := "append", desc := "(C)Ljava/lang/AbstractStringBuilder;" } : Jvm.MethodName)) ∈ lw_all := sorry
theorem q1306 : (Jvm.Cond.selects "java/lang/StringBuilder" ({ cls := "java/lang/Object", name := "getClass", desc := "()Ljava/lang/Class;" } : Jvm.MethodName) ({ cls := "java/lang/Object", name := "getClass", desc := "()Ljava/lang/Class;" } : Jvm.MethodName)) ∈ lw_all := sorry
theorem q1959 : (Jvm.Cond.instanceMethod ({ cls := "java/lang/StringBuilder", name := "setLength", desc := "(I)V" } : Jvm.MethodName)) ∈ lw_all := sorry
theorem q1960 : (Jvm.Cond.selects "java/lang/StringBuilder" ({ cls := "java/lang/StringBuilder", name := "setLength", desc := "(I)V" } : Jvm.MethodName) ({ cls := "java/lang/StringBuilder", name := "setLength", desc := "(I)V" } : Jvm.MethodName)) ∈ lw_all := sorry
theorem q1961 : (Jvm.Cond.code ({ cls := "java/lang/StringBuilder", name := "setLength", desc := "(I)V" } : Jvm.MethodName) prog_35_method_89_code (2 : Nat) (Option.none : Option Jvm.ClassFile.FieldType)) ∈ lw_all := sorry
theorem q1962 : (Jvm.Cond.methodLink "java/lang/StringBuilder" (333 : Nat) ({ cls := "java/lang/AbstractStringBuilder", name := "setLength", desc := "(I)V" } : Jvm.MethodName)) ∈ lw_all := sorry
theorem q2627 : (Jvm.Cond.selects "java/lang/StringBuilder" ({ cls := "java/lang/StringBuilder", name := "length", desc := "()I" } : Jvm.MethodName) ({ cls := "java/lang/StringBuilder", name := "length", desc := "()I" } : Jvm.MethodName)) ∈ lw_all := sorry
theorem q2642 : (Jvm.Cond.castable "java/lang/StringBuilder" "java/lang/Object") ∈ lw_tbl := sorry
theorem in_J9 : ∀ w ∈ wsJ90, w ∈ lw_all := sorry
/-! java/lang/String -/
set_option maxRecDepth 100000
def RJ10 : String := "java/lang/String"
def TJ10 : u_T := fun k => match k with
  | 0 => ("java/lang/String", "value", "[B", true)
  | 1 => ("java/lang/String", "coder", "B", true)
  | 2 => ("java/lang/String", "hash", "I", false)
  | _ => ("java/lang/String", "hashIsZero", "Z", false)
def tyJ10 : Nat → FieldType := fun k => match k with
  | 0 => .array .byte
  | 1 => .byte
  | 2 => .int
  | _ => .boolean
abbrev wsJ100 : List Cond := u_ws RJ10 TJ10 4
theorem nmJ10 : ∀ a, a < 4 → ∀ b, b < 4 → a ≠ b → (TJ10 a).2.1 ≠ (TJ10 b).2.1 := sorry
theorem tyJ10_ok : ∀ k, k < 4 → parseFieldDescriptor (TJ10 k).2.2.1 = some (tyJ10 k) := sorry
abbrev cJ10_checkBoundsBeginEnd : ByteArray := prog_34_method_158_code
def yJ10_checkBoundsBeginEnd : MethodName := ⟨RJ10, "checkBoundsBeginEnd", "(III)V"⟩
def dkwJ10_checkBoundsBeginEnd_0 : List UInt8 := [26, 27, 28, 178, 4, 29, 184, 4, 38, 87, 177]
abbrev dktJ10_checkBoundsBeginEnd_0 : List UInt8 := dkwJ10_checkBoundsBeginEnd_0 ++ []
theorem dksJ10_checkBoundsBeginEnd_0 : cJ10_checkBoundsBeginEnd.data.toList.drop 0 = dktJ10_checkBoundsBeginEnd_0 := sorry
theorem dJ10_checkBoundsBeginEnd_0 : decode cJ10_checkBoundsBeginEnd 0 = .ok (.iload_n 0, 1) := sorry
theorem dJ10_checkBoundsBeginEnd_1 : decode cJ10_checkBoundsBeginEnd 1 = .ok (.iload_n 1, 1) := sorry
theorem dJ10_checkBoundsBeginEnd_2 : decode cJ10_checkBoundsBeginEnd 2 = .ok (.iload_n 2, 1) := sorry
theorem dJ10_checkBoundsBeginEnd_3 : decode cJ10_checkBoundsBeginEnd 3 = .ok (.getstatic 1053, 3) := sorry
theorem dJ10_checkBoundsBeginEnd_6 : decode cJ10_checkBoundsBeginEnd 6 = .ok (.invokestatic 1062, 3) := sorry
theorem dJ10_checkBoundsBeginEnd_9 : decode cJ10_checkBoundsBeginEnd 9 = .ok (.pop, 1) := sorry
theorem dJ10_checkBoundsBeginEnd_10 : decode cJ10_checkBoundsBeginEnd 10 = .ok (.return_, 1) := sorry
abbrev cJ10_length : ByteArray := prog_34_method_54_code
def yJ10_length : MethodName := ⟨RJ10, "length", "()I"⟩
def dkwJ10_length_0 : List UInt8 := [42, 180, 0, 9, 190, 42, 182, 1, 79, 122, 172]
abbrev dktJ10_length_0 : List UInt8 := dkwJ10_length_0 ++ []
theorem dksJ10_length_0 : cJ10_length.data.toList.drop 0 = dktJ10_length_0 := sorry
theorem dJ10_length_0 : decode cJ10_length 0 = .ok (.aload_n 0, 1) := sorry
theorem dJ10_length_1 : decode cJ10_length 1 = .ok (.getfield 9, 3) := sorry
theorem dJ10_length_4 : decode cJ10_length 4 = .ok (.arraylength, 1) := sorry
theorem dJ10_length_5 : decode cJ10_length 5 = .ok (.aload_n 0, 1) := sorry
theorem dJ10_length_6 : decode cJ10_length 6 = .ok (.invokevirtual 335, 3) := sorry
theorem dJ10_length_9 : decode cJ10_length 9 = .ok (.ishr, 1) := sorry
theorem dJ10_length_10 : decode cJ10_length 10 = .ok (.ireturn, 1) := sorry
abbrev cJ10_coder : ByteArray := prog_34_method_152_code
def yJ10_coder : MethodName := ⟨RJ10, "coder", "()B"⟩
def dkwJ10_coder_0 : List UInt8 := [178, 0, 38, 153, 0, 10, 42, 180, 0, 15, 167, 0, 4, 4, 172]
abbrev dktJ10_coder_0 : List UInt8 := dkwJ10_coder_0 ++ []
theorem dksJ10_coder_0 : cJ10_coder.data.toList.drop 0 = dktJ10_coder_0 := sorry
theorem dJ10_coder_0 : decode cJ10_coder 0 = .ok (.getstatic 38, 3) := sorry
theorem dJ10_coder_3 : decode cJ10_coder 3 = .ok (.ifCond .eq 10, 3) := sorry
theorem dJ10_coder_6 : decode cJ10_coder 6 = .ok (.aload_n 0, 1) := sorry
theorem dJ10_coder_7 : decode cJ10_coder 7 = .ok (.getfield 15, 3) := sorry
theorem dJ10_coder_10 : decode cJ10_coder 10 = .ok (.goto 4, 3) := sorry
theorem dJ10_coder_13 : decode cJ10_coder 13 = .ok (.iconst 1, 1) := sorry
theorem dJ10_coder_14 : decode cJ10_coder 14 = .ok (.ireturn, 1) := sorry
abbrev cJ10_checkBoundsOffCount : ByteArray := prog_34_method_157_code
def yJ10_checkBoundsOffCount : MethodName := ⟨RJ10, "checkBoundsOffCount", "(III)I"⟩
def dkwJ10_checkBoundsOffCount_0 : List UInt8 := [26, 27, 28, 178, 4, 29, 184, 4, 41, 172]
abbrev dktJ10_checkBoundsOffCount_0 : List UInt8 := dkwJ10_checkBoundsOffCount_0 ++ []
theorem dksJ10_checkBoundsOffCount_0 : cJ10_checkBoundsOffCount.data.toList.drop 0 = dktJ10_checkBoundsOffCount_0 := sorry
theorem dJ10_checkBoundsOffCount_0 : decode cJ10_checkBoundsOffCount 0 = .ok (.iload_n 0, 1) := sorry
theorem dJ10_checkBoundsOffCount_1 : decode cJ10_checkBoundsOffCount 1 = .ok (.iload_n 1, 1) := sorry
theorem dJ10_checkBoundsOffCount_2 : decode cJ10_checkBoundsOffCount 2 = .ok (.iload_n 2, 1) := sorry
theorem dJ10_checkBoundsOffCount_3 : decode cJ10_checkBoundsOffCount 3 = .ok (.getstatic 1053, 3) := sorry
theorem dJ10_checkBoundsOffCount_6 : decode cJ10_checkBoundsOffCount 6 = .ok (.invokestatic 1065, 3) := sorry
theorem dJ10_checkBoundsOffCount_9 : decode cJ10_checkBoundsOffCount 9 = .ok (.ireturn, 1) := sorry
abbrev cJ10_getBytes : ByteArray := prog_34_method_147_code
def yJ10_getBytes : MethodName := ⟨RJ10, "getBytes", "([BIB)V"⟩
def dkwJ10_getBytes_1 : List UInt8 := [184, 0, 212, 167, 0, 18, 42, 180, 0, 9, 3, 43, 28, 42, 180, 0, 9, 190, 184, 0, 106, 177]
abbrev dktJ10_getBytes_1 : List UInt8 := dkwJ10_getBytes_1 ++ []
def dkwJ10_getBytes_0 : List UInt8 := [42, 182, 1, 79, 29, 160, 0, 23, 42, 180, 0, 9, 3, 43, 28, 29, 120, 42, 180, 0, 9, 190]
abbrev dktJ10_getBytes_0 : List UInt8 := dkwJ10_getBytes_0 ++ dktJ10_getBytes_1
theorem dksJ10_getBytes_0 : cJ10_getBytes.data.toList.drop 0 = dktJ10_getBytes_0 := sorry
theorem dksJ10_getBytes_1 : cJ10_getBytes.data.toList.drop 22 = dktJ10_getBytes_1 := sorry
theorem dJ10_getBytes_0 : decode cJ10_getBytes 0 = .ok (.aload_n 0, 1) := sorry
theorem dJ10_getBytes_1 : decode cJ10_getBytes 1 = .ok (.invokevirtual 335, 3) := sorry
theorem dJ10_getBytes_4 : decode cJ10_getBytes 4 = .ok (.iload_n 3, 1) := sorry
theorem dJ10_getBytes_5 : decode cJ10_getBytes 5 = .ok (.if_icmp .ne 23, 3) := sorry
theorem dJ10_getBytes_8 : decode cJ10_getBytes 8 = .ok (.aload_n 0, 1) := sorry
theorem dJ10_getBytes_9 : decode cJ10_getBytes 9 = .ok (.getfield 9, 3) := sorry
theorem dJ10_getBytes_12 : decode cJ10_getBytes 12 = .ok (.iconst 0, 1) := sorry
theorem dJ10_getBytes_13 : decode cJ10_getBytes 13 = .ok (.aload_n 1, 1) := sorry
theorem dJ10_getBytes_14 : decode cJ10_getBytes 14 = .ok (.iload_n 2, 1) := sorry
theorem dJ10_getBytes_15 : decode cJ10_getBytes 15 = .ok (.iload_n 3, 1) := sorry
theorem dJ10_getBytes_16 : decode cJ10_getBytes 16 = .ok (.ishl, 1) := sorry
theorem dJ10_getBytes_17 : decode cJ10_getBytes 17 = .ok (.aload_n 0, 1) := sorry
theorem dJ10_getBytes_18 : decode cJ10_getBytes 18 = .ok (.getfield 9, 3) := sorry
theorem dJ10_getBytes_21 : decode cJ10_getBytes 21 = .ok (.arraylength, 1) := sorry
theorem dJ10_getBytes_22 : decode cJ10_getBytes 22 = .ok (.invokestatic 212, 3) := sorry
theorem dJ10_getBytes_25 : decode cJ10_getBytes 25 = .ok (.goto 18, 3) := sorry
theorem dJ10_getBytes_28 : decode cJ10_getBytes 28 = .ok (.aload_n 0, 1) := sorry
theorem dJ10_getBytes_29 : decode cJ10_getBytes 29 = .ok (.getfield 9, 3) := sorry
theorem dJ10_getBytes_32 : decode cJ10_getBytes 32 = .ok (.iconst 0, 1) := sorry
theorem dJ10_getBytes_33 : decode cJ10_getBytes 33 = .ok (.aload_n 1, 1) := sorry
theorem dJ10_getBytes_34 : decode cJ10_getBytes 34 = .ok (.iload_n 2, 1) := sorry
theorem dJ10_getBytes_35 : decode cJ10_getBytes 35 = .ok (.aload_n 0, 1) := sorry
theorem dJ10_getBytes_36 : decode cJ10_getBytes 36 = .ok (.getfield 9, 3) := sorry
theorem dJ10_getBytes_39 : decode cJ10_getBytes 39 = .ok (.arraylength, 1) := sorry
theorem dJ10_getBytes_40 : decode cJ10_getBytes 40 = .ok (.invokestatic 106, 3) := sorry
theorem dJ10_getBytes_43 : decode cJ10_getBytes 43 = .ok (.return_, 1) := sorry
abbrev cJ10_init : ByteArray := prog_34_method_53_code
def yJ10_init : MethodName := ⟨RJ10, "<init>", "(Ljava/lang/StringBuilder;)V"⟩
def dkwJ10_init_0 : List UInt8 := [42, 43, 1, 183, 1, 233, 177]
abbrev dktJ10_init_0 : List UInt8 := dkwJ10_init_0 ++ []
theorem dksJ10_init_0 : cJ10_init.data.toList.drop 0 = dktJ10_init_0 := sorry
theorem dJ10_init_0 : decode cJ10_init 0 = .ok (.aload_n 0, 1) := sorry
theorem dJ10_init_1 : decode cJ10_init 1 = .ok (.aload_n 1, 1) := sorry
theorem dJ10_init_2 : decode cJ10_init 2 = .ok (.aconst_null, 1) := sorry
theorem dJ10_init_3 : decode cJ10_init 3 = .ok (.invokespecial 489, 3) := sorry
theorem dJ10_init_6 : decode cJ10_init 6 = .ok (.return_, 1) := sorry
abbrev cJ10_init_2 : ByteArray := prog_34_method_150_code
def yJ10_init_2 : MethodName := ⟨RJ10, "<init>", "(Ljava/lang/AbstractStringBuilder;Ljava/lang/Void;)V"⟩
def dkwJ10_init_2_4 : List UInt8 := [181, 0, 9, 177]
abbrev dktJ10_init_2_4 : List UInt8 := dkwJ10_init_2_4 ++ []
def dkwJ10_init_2_3 : List UInt8 := [184, 0, 47, 181, 0, 15, 177, 42, 4, 181, 0, 15, 42, 45, 3, 21, 4, 4, 120, 184, 0, 54]
abbrev dktJ10_init_2_3 : List UInt8 := dkwJ10_init_2_3 ++ dktJ10_init_2_4
def dkwJ10_init_2_2 : List UInt8 := [180, 4, 24, 153, 0, 28, 42, 45, 3, 21, 4, 184, 4, 27, 181, 0, 9, 42, 42, 180, 0, 9, 21, 4]
abbrev dktJ10_init_2_2 : List UInt8 := dkwJ10_init_2_2 ++ dktJ10_init_2_3
def dkwJ10_init_2_1 : List UInt8 := [181, 0, 15, 42, 45, 3, 21, 4, 184, 0, 54, 181, 0, 9, 167, 0, 59, 178, 0, 38, 153, 0, 35, 43]
abbrev dktJ10_init_2_1 : List UInt8 := dkwJ10_init_2_1 ++ dktJ10_init_2_2
def dkwJ10_init_2_0 : List UInt8 := [42, 183, 0, 1, 43, 182, 2, 40, 78, 43, 182, 2, 37, 54, 4, 43, 182, 4, 23, 153, 0, 22, 42, 3]
abbrev dktJ10_init_2_0 : List UInt8 := dkwJ10_init_2_0 ++ dktJ10_init_2_1
theorem dksJ10_init_2_0 : cJ10_init_2.data.toList.drop 0 = dktJ10_init_2_0 := sorry
theorem dksJ10_init_2_1 : cJ10_init_2.data.toList.drop 24 = dktJ10_init_2_1 := sorry
theorem dksJ10_init_2_2 : cJ10_init_2.data.toList.drop 48 = dktJ10_init_2_2 := sorry
theorem dksJ10_init_2_3 : cJ10_init_2.data.toList.drop 72 = dktJ10_init_2_3 := sorry
theorem dksJ10_init_2_4 : cJ10_init_2.data.toList.drop 94 = dktJ10_init_2_4 := sorry
theorem dJ10_init_2_0 : decode cJ10_init_2 0 = .ok (.aload_n 0, 1) := sorry
theorem dJ10_init_2_1 : decode cJ10_init_2 1 = .ok (.invokespecial 1, 3) := sorry
theorem dJ10_init_2_4 : decode cJ10_init_2 4 = .ok (.aload_n 1, 1) := sorry
theorem dJ10_init_2_5 : decode cJ10_init_2 5 = .ok (.invokevirtual 552, 3) := sorry
theorem dJ10_init_2_8 : decode cJ10_init_2 8 = .ok (.astore_n 3, 1) := sorry
theorem dJ10_init_2_9 : decode cJ10_init_2 9 = .ok (.aload_n 1, 1) := sorry
theorem dJ10_init_2_10 : decode cJ10_init_2 10 = .ok (.invokevirtual 549, 3) := sorry
theorem dJ10_init_2_13 : decode cJ10_init_2 13 = .ok (.istore 4, 2) := sorry
theorem dJ10_init_2_15 : decode cJ10_init_2 15 = .ok (.aload_n 1, 1) := sorry
theorem dJ10_init_2_16 : decode cJ10_init_2 16 = .ok (.invokevirtual 1047, 3) := sorry
theorem dJ10_init_2_19 : decode cJ10_init_2 19 = .ok (.ifCond .eq 22, 3) := sorry
theorem dJ10_init_2_22 : decode cJ10_init_2 22 = .ok (.aload_n 0, 1) := sorry
theorem dJ10_init_2_23 : decode cJ10_init_2 23 = .ok (.iconst 0, 1) := sorry
theorem dJ10_init_2_24 : decode cJ10_init_2 24 = .ok (.putfield 15, 3) := sorry
theorem dJ10_init_2_27 : decode cJ10_init_2 27 = .ok (.aload_n 0, 1) := sorry
theorem dJ10_init_2_28 : decode cJ10_init_2 28 = .ok (.aload_n 3, 1) := sorry
theorem dJ10_init_2_29 : decode cJ10_init_2 29 = .ok (.iconst 0, 1) := sorry
theorem dJ10_init_2_30 : decode cJ10_init_2 30 = .ok (.iload 4, 2) := sorry
theorem dJ10_init_2_32 : decode cJ10_init_2 32 = .ok (.invokestatic 54, 3) := sorry
theorem dJ10_init_2_35 : decode cJ10_init_2 35 = .ok (.putfield 9, 3) := sorry
theorem dJ10_init_2_38 : decode cJ10_init_2 38 = .ok (.goto 59, 3) := sorry
theorem dJ10_init_2_41 : decode cJ10_init_2 41 = .ok (.getstatic 38, 3) := sorry
theorem dJ10_init_2_44 : decode cJ10_init_2 44 = .ok (.ifCond .eq 35, 3) := sorry
theorem dJ10_init_2_47 : decode cJ10_init_2 47 = .ok (.aload_n 1, 1) := sorry
theorem dJ10_init_2_48 : decode cJ10_init_2 48 = .ok (.getfield 1048, 3) := sorry
theorem dJ10_init_2_51 : decode cJ10_init_2 51 = .ok (.ifCond .eq 28, 3) := sorry
theorem dJ10_init_2_54 : decode cJ10_init_2 54 = .ok (.aload_n 0, 1) := sorry
theorem dJ10_init_2_55 : decode cJ10_init_2 55 = .ok (.aload_n 3, 1) := sorry
theorem dJ10_init_2_56 : decode cJ10_init_2 56 = .ok (.iconst 0, 1) := sorry
theorem dJ10_init_2_57 : decode cJ10_init_2 57 = .ok (.iload 4, 2) := sorry
theorem dJ10_init_2_59 : decode cJ10_init_2 59 = .ok (.invokestatic 1051, 3) := sorry
theorem dJ10_init_2_62 : decode cJ10_init_2 62 = .ok (.putfield 9, 3) := sorry
theorem dJ10_init_2_65 : decode cJ10_init_2 65 = .ok (.aload_n 0, 1) := sorry
theorem dJ10_init_2_66 : decode cJ10_init_2 66 = .ok (.aload_n 0, 1) := sorry
theorem dJ10_init_2_67 : decode cJ10_init_2 67 = .ok (.getfield 9, 3) := sorry
theorem dJ10_init_2_70 : decode cJ10_init_2 70 = .ok (.iload 4, 2) := sorry
theorem dJ10_init_2_72 : decode cJ10_init_2 72 = .ok (.invokestatic 47, 3) := sorry
theorem dJ10_init_2_75 : decode cJ10_init_2 75 = .ok (.putfield 15, 3) := sorry
theorem dJ10_init_2_78 : decode cJ10_init_2 78 = .ok (.return_, 1) := sorry
theorem dJ10_init_2_79 : decode cJ10_init_2 79 = .ok (.aload_n 0, 1) := sorry
theorem dJ10_init_2_80 : decode cJ10_init_2 80 = .ok (.iconst 1, 1) := sorry
theorem dJ10_init_2_81 : decode cJ10_init_2 81 = .ok (.putfield 15, 3) := sorry
theorem dJ10_init_2_84 : decode cJ10_init_2 84 = .ok (.aload_n 0, 1) := sorry
theorem dJ10_init_2_85 : decode cJ10_init_2 85 = .ok (.aload_n 3, 1) := sorry
theorem dJ10_init_2_86 : decode cJ10_init_2 86 = .ok (.iconst 0, 1) := sorry
theorem dJ10_init_2_87 : decode cJ10_init_2 87 = .ok (.iload 4, 2) := sorry
theorem dJ10_init_2_89 : decode cJ10_init_2 89 = .ok (.iconst 1, 1) := sorry
theorem dJ10_init_2_90 : decode cJ10_init_2 90 = .ok (.ishl, 1) := sorry
theorem dJ10_init_2_91 : decode cJ10_init_2 91 = .ok (.invokestatic 54, 3) := sorry
theorem dJ10_init_2_94 : decode cJ10_init_2 94 = .ok (.putfield 9, 3) := sorry
theorem dJ10_init_2_97 : decode cJ10_init_2 97 = .ok (.return_, 1) := sorry
abbrev cJ10_checkIndex : ByteArray := prog_34_method_155_code
def yJ10_checkIndex : MethodName := ⟨RJ10, "checkIndex", "(II)V"⟩
def dkwJ10_checkIndex_0 : List UInt8 := [26, 27, 178, 4, 29, 184, 4, 35, 87, 177]
abbrev dktJ10_checkIndex_0 : List UInt8 := dkwJ10_checkIndex_0 ++ []
theorem dksJ10_checkIndex_0 : cJ10_checkIndex.data.toList.drop 0 = dktJ10_checkIndex_0 := sorry
theorem dJ10_checkIndex_0 : decode cJ10_checkIndex 0 = .ok (.iload_n 0, 1) := sorry
theorem dJ10_checkIndex_1 : decode cJ10_checkIndex 1 = .ok (.iload_n 1, 1) := sorry
theorem dJ10_checkIndex_2 : decode cJ10_checkIndex 2 = .ok (.getstatic 1053, 3) := sorry
theorem dJ10_checkIndex_5 : decode cJ10_checkIndex 5 = .ok (.invokestatic 1059, 3) := sorry
theorem dJ10_checkIndex_8 : decode cJ10_checkIndex 8 = .ok (.pop, 1) := sorry
theorem dJ10_checkIndex_9 : decode cJ10_checkIndex 9 = .ok (.return_, 1) := sorry
abbrev cJ10_hashCode : ByteArray := prog_34_method_78_code
def yJ10_hashCode : MethodName := ⟨RJ10, "hashCode", "()I"⟩
def dkwJ10_hashCode_2 : List UInt8 := [181, 0, 23, 167, 0, 8, 42, 27, 181, 0, 19, 27, 172]
abbrev dktJ10_hashCode_2 : List UInt8 := dkwJ10_hashCode_2 ++ []
def dkwJ10_hashCode_1 : List UInt8 := [180, 0, 9, 184, 2, 116, 167, 0, 10, 42, 180, 0, 9, 184, 2, 120, 60, 27, 154, 0, 11, 42, 4]
abbrev dktJ10_hashCode_1 : List UInt8 := dkwJ10_hashCode_1 ++ dktJ10_hashCode_2
def dkwJ10_hashCode_0 : List UInt8 := [42, 180, 0, 19, 60, 27, 154, 0, 52, 42, 180, 0, 23, 154, 0, 45, 42, 182, 1, 236, 153, 0, 13, 42]
abbrev dktJ10_hashCode_0 : List UInt8 := dkwJ10_hashCode_0 ++ dktJ10_hashCode_1
theorem dksJ10_hashCode_0 : cJ10_hashCode.data.toList.drop 0 = dktJ10_hashCode_0 := sorry
theorem dksJ10_hashCode_1 : cJ10_hashCode.data.toList.drop 24 = dktJ10_hashCode_1 := sorry
theorem dksJ10_hashCode_2 : cJ10_hashCode.data.toList.drop 47 = dktJ10_hashCode_2 := sorry
theorem dJ10_hashCode_0 : decode cJ10_hashCode 0 = .ok (.aload_n 0, 1) := sorry
theorem dJ10_hashCode_1 : decode cJ10_hashCode 1 = .ok (.getfield 19, 3) := sorry
theorem dJ10_hashCode_4 : decode cJ10_hashCode 4 = .ok (.istore_n 1, 1) := sorry
theorem dJ10_hashCode_5 : decode cJ10_hashCode 5 = .ok (.iload_n 1, 1) := sorry
theorem dJ10_hashCode_6 : decode cJ10_hashCode 6 = .ok (.ifCond .ne 52, 3) := sorry
theorem dJ10_hashCode_9 : decode cJ10_hashCode 9 = .ok (.aload_n 0, 1) := sorry
theorem dJ10_hashCode_10 : decode cJ10_hashCode 10 = .ok (.getfield 23, 3) := sorry
theorem dJ10_hashCode_13 : decode cJ10_hashCode 13 = .ok (.ifCond .ne 45, 3) := sorry
theorem dJ10_hashCode_16 : decode cJ10_hashCode 16 = .ok (.aload_n 0, 1) := sorry
theorem dJ10_hashCode_17 : decode cJ10_hashCode 17 = .ok (.invokevirtual 492, 3) := sorry
theorem dJ10_hashCode_20 : decode cJ10_hashCode 20 = .ok (.ifCond .eq 13, 3) := sorry
theorem dJ10_hashCode_23 : decode cJ10_hashCode 23 = .ok (.aload_n 0, 1) := sorry
theorem dJ10_hashCode_24 : decode cJ10_hashCode 24 = .ok (.getfield 9, 3) := sorry
theorem dJ10_hashCode_27 : decode cJ10_hashCode 27 = .ok (.invokestatic 628, 3) := sorry
theorem dJ10_hashCode_30 : decode cJ10_hashCode 30 = .ok (.goto 10, 3) := sorry
theorem dJ10_hashCode_33 : decode cJ10_hashCode 33 = .ok (.aload_n 0, 1) := sorry
theorem dJ10_hashCode_34 : decode cJ10_hashCode 34 = .ok (.getfield 9, 3) := sorry
theorem dJ10_hashCode_37 : decode cJ10_hashCode 37 = .ok (.invokestatic 632, 3) := sorry
theorem dJ10_hashCode_40 : decode cJ10_hashCode 40 = .ok (.istore_n 1, 1) := sorry
theorem dJ10_hashCode_41 : decode cJ10_hashCode 41 = .ok (.iload_n 1, 1) := sorry
theorem dJ10_hashCode_42 : decode cJ10_hashCode 42 = .ok (.ifCond .ne 11, 3) := sorry
theorem dJ10_hashCode_45 : decode cJ10_hashCode 45 = .ok (.aload_n 0, 1) := sorry
theorem dJ10_hashCode_46 : decode cJ10_hashCode 46 = .ok (.iconst 1, 1) := sorry
theorem dJ10_hashCode_47 : decode cJ10_hashCode 47 = .ok (.putfield 23, 3) := sorry
theorem dJ10_hashCode_50 : decode cJ10_hashCode 50 = .ok (.goto 8, 3) := sorry
theorem dJ10_hashCode_53 : decode cJ10_hashCode 53 = .ok (.aload_n 0, 1) := sorry
theorem dJ10_hashCode_54 : decode cJ10_hashCode 54 = .ok (.iload_n 1, 1) := sorry
theorem dJ10_hashCode_55 : decode cJ10_hashCode 55 = .ok (.putfield 19, 3) := sorry
theorem dJ10_hashCode_58 : decode cJ10_hashCode 58 = .ok (.iload_n 1, 1) := sorry
theorem dJ10_hashCode_59 : decode cJ10_hashCode 59 = .ok (.ireturn, 1) := sorry
abbrev cJ10_isLatin1 : ByteArray := prog_34_method_154_code
def yJ10_isLatin1 : MethodName := ⟨RJ10, "isLatin1", "()Z"⟩
def dkwJ10_isLatin1_0 : List UInt8 := [178, 0, 38, 153, 0, 14, 42, 180, 0, 15, 154, 0, 7, 4, 167, 0, 4, 3, 172]
abbrev dktJ10_isLatin1_0 : List UInt8 := dkwJ10_isLatin1_0 ++ []
theorem dksJ10_isLatin1_0 : cJ10_isLatin1.data.toList.drop 0 = dktJ10_isLatin1_0 := sorry
theorem dJ10_isLatin1_0 : decode cJ10_isLatin1 0 = .ok (.getstatic 38, 3) := sorry
theorem dJ10_isLatin1_3 : decode cJ10_isLatin1 3 = .ok (.ifCond .eq 14, 3) := sorry
theorem dJ10_isLatin1_6 : decode cJ10_isLatin1 6 = .ok (.aload_n 0, 1) := sorry
theorem dJ10_isLatin1_7 : decode cJ10_isLatin1 7 = .ok (.getfield 15, 3) := sorry
theorem dJ10_isLatin1_10 : decode cJ10_isLatin1 10 = .ok (.ifCond .ne 7, 3) := sorry
theorem dJ10_isLatin1_13 : decode cJ10_isLatin1 13 = .ok (.iconst 1, 1) := sorry
theorem dJ10_isLatin1_14 : decode cJ10_isLatin1 14 = .ok (.goto 4, 3) := sorry
theorem dJ10_isLatin1_17 : decode cJ10_isLatin1 17 = .ok (.iconst 0, 1) := sorry
theorem dJ10_isLatin1_18 : decode cJ10_isLatin1 18 = .ok (.ireturn, 1) := sorry
abbrev cJ10_equals : ByteArray := prog_34_method_66_code
def yJ10_equals : MethodName := ⟨RJ10, "equals", "(Ljava/lang/Object;)Z"⟩
def dkwJ10_equals_2 : List UInt8 := [184, 2, 29, 153, 0, 7, 4, 167, 0, 4, 3, 172]
abbrev dktJ10_equals_2 : List UInt8 := dkwJ10_equals_2 ++ []
def dkwJ10_equals_1 : List UInt8 := [153, 0, 14, 42, 180, 0, 15, 44, 180, 0, 15, 160, 0, 21, 42, 180, 0, 9, 44, 180, 0, 9]
abbrev dktJ10_equals_1 : List UInt8 := dkwJ10_equals_1 ++ dktJ10_equals_2
def dkwJ10_equals_0 : List UInt8 := [42, 43, 166, 0, 5, 4, 172, 43, 193, 0, 10, 153, 0, 43, 43, 192, 0, 10, 77, 178, 0, 38]
abbrev dktJ10_equals_0 : List UInt8 := dkwJ10_equals_0 ++ dktJ10_equals_1
theorem dksJ10_equals_0 : cJ10_equals.data.toList.drop 0 = dktJ10_equals_0 := sorry
theorem dksJ10_equals_1 : cJ10_equals.data.toList.drop 22 = dktJ10_equals_1 := sorry
theorem dksJ10_equals_2 : cJ10_equals.data.toList.drop 44 = dktJ10_equals_2 := sorry
theorem dJ10_equals_0 : decode cJ10_equals 0 = .ok (.aload_n 0, 1) := sorry
theorem dJ10_equals_1 : decode cJ10_equals 1 = .ok (.aload_n 1, 1) := sorry
theorem dJ10_equals_2 : decode cJ10_equals 2 = .ok (.if_acmp .ne 5, 3) := sorry
theorem dJ10_equals_5 : decode cJ10_equals 5 = .ok (.iconst 1, 1) := sorry
theorem dJ10_equals_6 : decode cJ10_equals 6 = .ok (.ireturn, 1) := sorry
theorem dJ10_equals_7 : decode cJ10_equals 7 = .ok (.aload_n 1, 1) := sorry
theorem dJ10_equals_8 : decode cJ10_equals 8 = .ok (.instanceof 10, 3) := sorry
theorem dJ10_equals_11 : decode cJ10_equals 11 = .ok (.ifCond .eq 43, 3) := sorry
theorem dJ10_equals_14 : decode cJ10_equals 14 = .ok (.aload_n 1, 1) := sorry
theorem dJ10_equals_15 : decode cJ10_equals 15 = .ok (.checkcast 10, 3) := sorry
theorem dJ10_equals_18 : decode cJ10_equals 18 = .ok (.astore_n 2, 1) := sorry
theorem dJ10_equals_19 : decode cJ10_equals 19 = .ok (.getstatic 38, 3) := sorry
theorem dJ10_equals_22 : decode cJ10_equals 22 = .ok (.ifCond .eq 14, 3) := sorry
theorem dJ10_equals_25 : decode cJ10_equals 25 = .ok (.aload_n 0, 1) := sorry
theorem dJ10_equals_26 : decode cJ10_equals 26 = .ok (.getfield 15, 3) := sorry
theorem dJ10_equals_29 : decode cJ10_equals 29 = .ok (.aload_n 2, 1) := sorry
theorem dJ10_equals_30 : decode cJ10_equals 30 = .ok (.getfield 15, 3) := sorry
theorem dJ10_equals_33 : decode cJ10_equals 33 = .ok (.if_icmp .ne 21, 3) := sorry
theorem dJ10_equals_36 : decode cJ10_equals 36 = .ok (.aload_n 0, 1) := sorry
theorem dJ10_equals_37 : decode cJ10_equals 37 = .ok (.getfield 9, 3) := sorry
theorem dJ10_equals_40 : decode cJ10_equals 40 = .ok (.aload_n 2, 1) := sorry
theorem dJ10_equals_41 : decode cJ10_equals 41 = .ok (.getfield 9, 3) := sorry
theorem dJ10_equals_44 : decode cJ10_equals 44 = .ok (.invokestatic 541, 3) := sorry
theorem dJ10_equals_47 : decode cJ10_equals 47 = .ok (.ifCond .eq 7, 3) := sorry
theorem dJ10_equals_50 : decode cJ10_equals 50 = .ok (.iconst 1, 1) := sorry
theorem dJ10_equals_51 : decode cJ10_equals 51 = .ok (.goto 4, 3) := sorry
theorem dJ10_equals_54 : decode cJ10_equals 54 = .ok (.iconst 0, 1) := sorry
theorem dJ10_equals_55 : decode cJ10_equals 55 = .ok (.ireturn, 1) := sorry
abbrev cJ10_charAt : ByteArray := prog_34_method_56_code
def yJ10_charAt : MethodName := ⟨RJ10, "charAt", "(I)C"⟩
def dkwJ10_charAt_1 : List UInt8 := [172]
abbrev dktJ10_charAt_1 : List UInt8 := dkwJ10_charAt_1 ++ []
def dkwJ10_charAt_0 : List UInt8 := [42, 182, 1, 236, 153, 0, 12, 42, 180, 0, 9, 27, 184, 1, 239, 172, 42, 180, 0, 9, 27, 184, 1, 242]
abbrev dktJ10_charAt_0 : List UInt8 := dkwJ10_charAt_0 ++ dktJ10_charAt_1
theorem dksJ10_charAt_0 : cJ10_charAt.data.toList.drop 0 = dktJ10_charAt_0 := sorry
theorem dksJ10_charAt_1 : cJ10_charAt.data.toList.drop 24 = dktJ10_charAt_1 := sorry
theorem dJ10_charAt_0 : decode cJ10_charAt 0 = .ok (.aload_n 0, 1) := sorry
theorem dJ10_charAt_1 : decode cJ10_charAt 1 = .ok (.invokevirtual 492, 3) := sorry
theorem dJ10_charAt_4 : decode cJ10_charAt 4 = .ok (.ifCond .eq 12, 3) := sorry
theorem dJ10_charAt_7 : decode cJ10_charAt 7 = .ok (.aload_n 0, 1) := sorry
theorem dJ10_charAt_8 : decode cJ10_charAt 8 = .ok (.getfield 9, 3) := sorry
theorem dJ10_charAt_11 : decode cJ10_charAt 11 = .ok (.iload_n 1, 1) := sorry
theorem dJ10_charAt_12 : decode cJ10_charAt 12 = .ok (.invokestatic 495, 3) := sorry
theorem dJ10_charAt_15 : decode cJ10_charAt 15 = .ok (.ireturn, 1) := sorry
theorem dJ10_charAt_16 : decode cJ10_charAt 16 = .ok (.aload_n 0, 1) := sorry
theorem dJ10_charAt_17 : decode cJ10_charAt 17 = .ok (.getfield 9, 3) := sorry
theorem dJ10_charAt_20 : decode cJ10_charAt 20 = .ok (.iload_n 1, 1) := sorry
theorem dJ10_charAt_21 : decode cJ10_charAt 21 = .ok (.invokestatic 498, 3) := sorry
theorem dJ10_charAt_24 : decode cJ10_charAt 24 = .ok (.ireturn, 1) := sorry
theorem q96 : (Jvm.Cond.initialized "java/lang/String") ∈ lw_all := sorry
theorem q236 : (Jvm.Cond.laysStatic "java/lang/String" "COMPACT_STRINGS" "Z") ∈ lw_tbl := sorry
theorem q247 : (Jvm.Cond.fieldLink "java/lang/String" (1048 : Nat) "java/lang/AbstractStringBuilder" "maybeLatin1" "Z") ∈ lw_all := sorry
theorem q320 : (Jvm.Cond.static ({ cls := "java/lang/String", name := "checkBoundsBeginEnd", desc := "(III)V" } : Jvm.MethodName)) ∈ lw_all := sorry
theorem q321 : (Jvm.Cond.code ({ cls := "java/lang/String", name := "checkBoundsBeginEnd", desc := "(III)V" } : Jvm.MethodName) prog_34_method_158_code (3 : Nat) (Option.none : Option Jvm.ClassFile.FieldType)) ∈ lw_all := sorry
theorem q322 : (Jvm.Cond.fieldLink "java/lang/String" (1053 : Nat) "jdk/internal/util/Preconditions" "SIOOBE_FORMATTER" "Ljava/util/function/BiFunction;") ∈ lw_all := sorry
theorem q324 : (Jvm.Cond.methodLink "java/lang/String" (1062 : Nat) ({ cls := "jdk/internal/util/Preconditions", name := "checkFromToIndex", desc := "(IIILjava/util/function/BiFunction;)I" } : Jvm.MethodName)) ∈ lw_all := sorry
theorem q337 : (Jvm.Cond.instanceMethod ({ cls := "java/lang/String", name := "length", desc := "()I" } : Jvm.MethodName)) ∈ lw_all := sorry
theorem q338 : (Jvm.Cond.selects "java/lang/String" ({ cls := "java/lang/String", name := "length", desc := "()I" } : Jvm.MethodName) ({ cls := "java/lang/String", name := "length", desc := "()I" } : Jvm.MethodName)) ∈ lw_all := sorry
theorem q339 : (Jvm.Cond.code ({ cls := "java/lang/String", name := "length", desc := "()I" } : Jvm.MethodName) prog_34_method_54_code (1 : Nat) (Option.some Jvm.ClassFile.FieldType.int)) ∈ lw_all := sorry
theorem q340 : (Jvm.Cond.methodLink "java/lang/String" (335 : Nat) ({ cls := "java/lang/String", name := "coder", desc := "()B" } : Jvm.MethodName)) ∈ lw_all := sorry
theorem q341 : (Jvm.Cond.instanceMethod ({ cls := "java/lang/String", name := "coder", desc := "()B" } : Jvm.MethodName)) ∈ lw_all := sorry
theorem q342 : (Jvm.Cond.selects "java/lang/String" ({ cls := "java/lang/String", name := "coder", desc := "()B" } : Jvm.MethodName) ({ cls := "java/lang/String", name := "coder", desc := "()B" } : Jvm.MethodName)) ∈ lw_all := sorry
theorem q343 : (Jvm.Cond.code ({ cls := "java/lang/String", name := "coder", desc := "()B" } : Jvm.MethodName) prog_34_method_152_code (1 : Nat) (Option.some Jvm.ClassFile.FieldType.byte)) ∈ lw_all := sorry
theorem q344 : (Jvm.Cond.fieldLink "java/lang/String" (38 : Nat) "java/lang/String" "COMPACT_STRINGS" "Z") ∈ lw_all := sorry
theorem q368 : (Jvm.Cond.static ({ cls := "java/lang/String", name := "checkBoundsOffCount", desc := "(III)I" } : Jvm.MethodName)) ∈ lw_all := sorry
theorem q369 : (Jvm.Cond.code ({ cls := "java/lang/String", name := "checkBoundsOffCount", desc := "(III)I" } : Jvm.MethodName) prog_34_method_157_code (3 : Nat) (Option.some Jvm.ClassFile.FieldType.int)) ∈ lw_all := sorry
theorem q370 : (Jvm.Cond.methodLink "java/lang/String" (1065 : Nat) ({ cls := "jdk/internal/util/Preconditions", name := "checkFromIndexSize", desc := "(IIILjava/util/function/BiFunction;)I" } : Jvm.MethodName)) ∈ lw_all := sorry
theorem q374 : (Jvm.Cond.instanceMethod ({ cls := "java/lang/String", name := "getBytes", desc := "([BIB)V" } : Jvm.MethodName)) ∈ lw_all := sorry
theorem q375 : (Jvm.Cond.selects "java/lang/String" ({ cls := "java/lang/String", name := "getBytes", desc := "([BIB)V" } : Jvm.MethodName) ({ cls := "java/lang/String", name := "getBytes", desc := "([BIB)V" } : Jvm.MethodName)) ∈ lw_all := sorry
theorem q376 : (Jvm.Cond.code ({ cls := "java/lang/String", name := "getBytes", desc := "([BIB)V" } : Jvm.MethodName) prog_34_method_147_code (4 : Nat) (Option.none : Option Jvm.ClassFile.FieldType)) ∈ lw_all := sorry
theorem q377 : (Jvm.Cond.methodLink "java/lang/String" (212 : Nat) ({ cls := "java/lang/System", name := "arraycopy", desc := "(Ljava/lang/Object;ILjava/lang/Object;II)V" } : Jvm.MethodName)) ∈ lw_all := sorry
theorem q378 : (Jvm.Cond.methodLink "java/lang/String" (106 : Nat) ({ cls := "java/lang/StringLatin1", name := "inflate", desc := "([BI[BII)V" } : Jvm.MethodName)) ∈ lw_all := sorry
theorem q409 : (Jvm.Cond.instantiable "java/lang/String" (4 : Nat)) ∈ lw_all := sorry
theorem q411 : (Jvm.Cond.instanceMethod ({ cls := "java/lang/String", name := "<init>", desc := "(Ljava/lang/StringBuilder;)V" } : Jvm.MethodName)) ∈ lw_all := sorry
theorem q412 : (Jvm.Cond.code ({ cls := "java/lang/String", name := "<init>", desc := "(Ljava/lang/StringBuilder;)V" } : Jvm.MethodName) prog_34_method_53_code (2 : Nat) (Option.none : Option Jvm.ClassFile.FieldType)) ∈ lw_all := sorry
theorem q413 : (Jvm.Cond.methodLink "java/lang/String" (489 : Nat) ({ cls := "java/lang/String", name := "<init>", desc := "(Ljava/lang/AbstractStringBuilder;Ljava/lang/Void;)V" } : Jvm.MethodName)) ∈ lw_all := sorry
theorem q414 : (Jvm.Cond.instanceMethod ({ cls := "java/lang/String", name := "<init>", desc := "(Ljava/lang/AbstractStringBuilder;Ljava/lang/Void;)V" } : Jvm.MethodName)) ∈ lw_all := sorry
theorem q415 : (Jvm.Cond.code ({ cls := "java/lang/String", name := "<init>", desc := "(Ljava/lang/AbstractStringBuilder;Ljava/lang/Void;)V" } : Jvm.MethodName) prog_34_method_150_code (5 : Nat) (Option.none : Option Jvm.ClassFile.FieldType)) ∈ lw_all := sorry
theorem q416 : (Jvm.Cond.methodLink "java/lang/String" (1 : Nat) ({ cls := "java/lang/Object", name := "<init>", desc := "()V" } : Jvm.MethodName)) ∈ lw_all := sorry
theorem q417 : (Jvm.Cond.methodLink "java/lang/String" (552 : Nat) ({ cls := "java/lang/AbstractStringBuilder", name := "getValue", desc := "()[B" } : Jvm.MethodName)) ∈ lw_all := sorry
theorem q422 : (Jvm.Cond.methodLink "java/lang/String" (549 : Nat) ({ cls := "java/lang/AbstractStringBuilder", name := "length", desc := "()I" } : Jvm.MethodName)) ∈ lw_all := sorry
theorem q430 : (Jvm.Cond.methodLink "java/lang/String" (1047 : Nat) ({ cls := "java/lang/AbstractStringBuilder", name := "isLatin1", desc := "()Z" } : Jvm.MethodName)) ∈ lw_all := sorry
theorem q431 : (Jvm.Cond.methodLink "java/lang/String" (54 : Nat) ({ cls := "java/util/Arrays", name := "copyOfRange", desc := "([BII)[B" } : Jvm.MethodName)) ∈ lw_all := sorry
theorem q472 : (Jvm.Cond.methodLink "java/lang/String" (1051 : Nat) ({ cls := "java/lang/StringUTF16", name := "compress", desc := "([BII)[B" } : Jvm.MethodName)) ∈ lw_all := sorry
theorem q482 : (Jvm.Cond.methodLink "java/lang/String" (47 : Nat) ({ cls := "java/lang/StringUTF16", name := "coderFromArrayLen", desc := "([BI)B" } : Jvm.MethodName)) ∈ lw_all := sorry
theorem q485 : (Jvm.Cond.fieldLink "java/lang/String" (9 : Nat) "java/lang/String" "value" "[B") ∈ lw_all := sorry
theorem q486 : (Jvm.Cond.fieldLink "java/lang/String" (15 : Nat) "java/lang/String" "coder" "B") ∈ lw_all := sorry
theorem q487 : (Jvm.Cond.fieldLink "java/lang/String" (19 : Nat) "java/lang/String" "hash" "I") ∈ lw_all := sorry
theorem q488 : (Jvm.Cond.fieldLink "java/lang/String" (23 : Nat) "java/lang/String" "hashIsZero" "Z") ∈ lw_all := sorry
theorem q489 : (Jvm.Cond.laysFinal "java/lang/String" "java/lang/String" "value" "[B") ∈ lw_all := sorry
theorem q490 : (Jvm.Cond.soleField "java/lang/String" "value") ∈ lw_all := sorry
theorem q491 : (Jvm.Cond.laysFinal "java/lang/String" "java/lang/String" "coder" "B") ∈ lw_all := sorry
theorem q492 : (Jvm.Cond.soleField "java/lang/String" "coder") ∈ lw_all := sorry
theorem q493 : (Jvm.Cond.lays "java/lang/String" "java/lang/String" "hash" "I") ∈ lw_all := sorry
theorem q494 : (Jvm.Cond.soleField "java/lang/String" "hash") ∈ lw_all := sorry
theorem q495 : (Jvm.Cond.lays "java/lang/String" "java/lang/String" "hashIsZero" "Z") ∈ lw_all := sorry
theorem q496 : (Jvm.Cond.soleField "java/lang/String" "hashIsZero") ∈ lw_all := sorry
theorem q497 : (Jvm.Cond.superclass "java/lang/String" "java/lang/Object") ∈ lw_all := sorry
theorem q1015 : (Jvm.Cond.static ({ cls := "java/lang/String", name := "checkIndex", desc := "(II)V" } : Jvm.MethodName)) ∈ lw_all := sorry
theorem q1016 : (Jvm.Cond.code ({ cls := "java/lang/String", name := "checkIndex", desc := "(II)V" } : Jvm.MethodName) prog_34_method_155_code (2 : Nat) (Option.none : Option Jvm.ClassFile.FieldType)) ∈ lw_all := sorry
theorem q1017 : (Jvm.Cond.methodLink "java/lang/String" (1059 : Nat) ({ cls := "jdk/internal/util/Preconditions", name := "checkIndex", desc := "(IILjava/util/function/BiFunction;)I" } : Jvm.MethodName)) ∈ lw_all := sorry
theorem q1092 : (Jvm.Cond.instanceMethod ({ cls := "java/lang/String", name := "hashCode", desc := "()I" } : Jvm.MethodName)) ∈ lw_all := sorry
theorem q1093 : (Jvm.Cond.selects "java/lang/String" ({ cls := "java/lang/String", name := "hashCode", desc := "()I" } : Jvm.MethodName) ({ cls := "java/lang/String", name := "hashCode", desc := "()I" } : Jvm.MethodName)) ∈ lw_all := sorry
theorem q1094 : (Jvm.Cond.code ({ cls := "java/lang/String", name := "hashCode", desc := "()I" } : Jvm.MethodName) prog_34_method_78_code (2 : Nat) (Option.some Jvm.ClassFile.FieldType.int)) ∈ lw_all := sorry
theorem q1095 : (Jvm.Cond.methodLink "java/lang/String" (492 : Nat) ({ cls := "java/lang/String", name := "isLatin1", desc := "()Z" } : Jvm.MethodName)) ∈ lw_all := sorry
theorem q1096 : (Jvm.Cond.instanceMethod ({ cls := "java/lang/String", name := "isLatin1", desc := "()Z" } : Jvm.MethodName)) ∈ lw_all := sorry
theorem q1097 : (Jvm.Cond.selects "java/lang/String" ({ cls := "java/lang/String", name := "isLatin1", desc := "()Z" } : Jvm.MethodName) ({ cls := "java/lang/String", name := "isLatin1", desc := "()Z" } : Jvm.MethodName)) ∈ lw_all := sorry
theorem q1098 : (Jvm.Cond.code ({ cls := "java/lang/String", name := "isLatin1", desc := "()Z" } : Jvm.MethodName) prog_34_method_154_code (1 : Nat) (Option.some Jvm.ClassFile.FieldType.boolean)) ∈ lw_all := sorry
theorem q1099 : (Jvm.Cond.methodLink "java/lang/String" (628 : Nat) ({ cls := "java/lang/StringLatin1", name := "hashCode", desc := "([B)I" } : Jvm.MethodName)) ∈ lw_all := sorry
theorem q1148 : (Jvm.Cond.methodLink "java/lang/String" (632 : Nat) ({ cls := "java/lang/StringUTF16", name := "hashCode", desc := "([B)I" } : Jvm.MethodName)) ∈ lw_all := sorry
theorem q1154 : (Jvm.Cond.instanceMethod ({ cls := "java/lang/String", name := "equals", desc := "(Ljava/lang/Object;)Z" } : Jvm.MethodName)) ∈ lw_all := sorry
theorem q1155 : (Jvm.Cond.selects "java/lang/String" ({ cls := "java/lang/String", name := "equals", desc := "(Ljava/lang/Object;)Z" } : Jvm.MethodName) ({ cls := "java/lang/String", name := "equals", desc := "(Ljava/lang/Object;)Z" } : Jvm.MethodName)) ∈ lw_all := sorry
theorem q1156 : (Jvm.Cond.code ({ cls := "java/lang/String", name := "equals", desc := "(Ljava/lang/Object;)Z" } : Jvm.MethodName) prog_34_method_66_code (3 : Nat) (Option.some Jvm.ClassFile.FieldType.boolean)) ∈ lw_all := sorry
theorem q1157 : (Jvm.Cond.classLink "java/lang/String" (10 : Nat) "java/lang/String") ∈ lw_all := sorry
theorem q1158 : (Jvm.Cond.methodLink "java/lang/String" (541 : Nat) ({ cls := "java/lang/StringLatin1", name := "equals", desc := "([B[B)Z" } : Jvm.MethodName)) ∈ lw_all := sorry
theorem q1305 : (Jvm.Cond.selects "java/lang/String" ({ cls := "java/lang/Object", name := "getClass", desc := "()Ljava/lang/Class;" } : Jvm.MethodName) ({ cls := "java/lang/Object", name := "getClass", desc := "()Ljava/lang/Class;" } : Jvm.MethodName)) ∈ lw_all := sorry
theorem q2191 : (Jvm.Cond.instanceMethod ({ cls := "java/lang/String", name := "charAt", desc := "(I)C" } : Jvm.MethodName)) ∈ lw_all := sorry
theorem q2192 : (Jvm.Cond.selects "java/lang/String" ({ cls := "java/lang/String", name := "charAt", desc := "(I)C" } : Jvm.MethodName) ({ cls := "java/lang/String", name := "charAt", desc := "(I)C" } : Jvm.MethodName)) ∈ lw_all := sorry
theorem q2193 : (Jvm.Cond.code ({ cls := "java/lang/String", name := "charAt", desc := "(I)C" } : Jvm.MethodName) prog_34_method_56_code (2 : Nat) (Option.some Jvm.ClassFile.FieldType.char)) ∈ lw_all := sorry
theorem q2194 : (Jvm.Cond.methodLink "java/lang/String" (495 : Nat) ({ cls := "java/lang/StringLatin1", name := "charAt", desc := "([BI)C" } : Jvm.MethodName)) ∈ lw_all := sorry
theorem q2198 : (Jvm.Cond.methodLink "java/lang/String" (498 : Nat) ({ cls := "java/lang/StringUTF16", name := "charAt", desc := "([BI)C" } : Jvm.MethodName)) ∈ lw_all := sorry
theorem q2643 : (Jvm.Cond.castable "java/lang/String" "java/lang/Object") ∈ lw_tbl := sorry
theorem in_J10 : ∀ w ∈ wsJ100, w ∈ lw_all := sorry
/-! java/lang/StringUTF16 -/
set_option maxRecDepth 100000
def RJ11 : String := "java/lang/StringUTF16"
abbrev cJ11_newBytesFor : ByteArray := prog_38_method_2_code
def yJ11_newBytesFor : MethodName := ⟨RJ11, "newBytesFor", "(I)[B"⟩
def dkwJ11_newBytesFor_0 : List UInt8 := [26, 184, 0, 11, 188, 8, 176]
abbrev dktJ11_newBytesFor_0 : List UInt8 := dkwJ11_newBytesFor_0 ++ []
theorem dksJ11_newBytesFor_0 : cJ11_newBytesFor.data.toList.drop 0 = dktJ11_newBytesFor_0 := sorry
theorem dJ11_newBytesFor_0 : decode cJ11_newBytesFor 0 = .ok (.iload_n 0, 1) := sorry
theorem dJ11_newBytesFor_1 : decode cJ11_newBytesFor 1 = .ok (.invokestatic 11, 3) := sorry
theorem dJ11_newBytesFor_4 : decode cJ11_newBytesFor 4 = .ok (.newarray .byte, 2) := sorry
theorem dJ11_newBytesFor_6 : decode cJ11_newBytesFor 6 = .ok (.areturn, 1) := sorry
abbrev cJ11_newBytesLength : ByteArray := prog_38_method_3_code
def yJ11_newBytesLength : MethodName := ⟨RJ11, "newBytesLength", "(I)I"⟩
def dkwJ11_newBytesLength_2 : List UInt8 := [182, 0, 32, 182, 0, 37, 183, 0, 41, 191, 26, 4, 120, 172]
abbrev dktJ11_newBytesLength_2 : List UInt8 := dkwJ11_newBytesLength_2 ++ []
def dkwJ11_newBytesLength_1 : List UInt8 := [187, 0, 23, 89, 183, 0, 25, 18, 26, 182, 0, 28, 26, 182, 0, 32, 18, 35, 182, 0, 28, 18, 20]
abbrev dktJ11_newBytesLength_1 : List UInt8 := dkwJ11_newBytesLength_1 ++ dktJ11_newBytesLength_2
def dkwJ11_newBytesLength_0 : List UInt8 := [26, 156, 0, 11, 187, 0, 17, 89, 183, 0, 19, 191, 26, 18, 20, 161, 0, 40, 187, 0, 21, 89]
abbrev dktJ11_newBytesLength_0 : List UInt8 := dkwJ11_newBytesLength_0 ++ dktJ11_newBytesLength_1
theorem dksJ11_newBytesLength_0 : cJ11_newBytesLength.data.toList.drop 0 = dktJ11_newBytesLength_0 := sorry
theorem dksJ11_newBytesLength_1 : cJ11_newBytesLength.data.toList.drop 22 = dktJ11_newBytesLength_1 := sorry
theorem dksJ11_newBytesLength_2 : cJ11_newBytesLength.data.toList.drop 45 = dktJ11_newBytesLength_2 := sorry
theorem dJ11_newBytesLength_0 : decode cJ11_newBytesLength 0 = .ok (.iload_n 0, 1) := sorry
theorem dJ11_newBytesLength_1 : decode cJ11_newBytesLength 1 = .ok (.ifCond .ge 11, 3) := sorry
theorem dJ11_newBytesLength_4 : decode cJ11_newBytesLength 4 = .ok (.new 17, 3) := sorry
theorem dJ11_newBytesLength_7 : decode cJ11_newBytesLength 7 = .ok (.dup, 1) := sorry
theorem dJ11_newBytesLength_8 : decode cJ11_newBytesLength 8 = .ok (.invokespecial 19, 3) := sorry
theorem dJ11_newBytesLength_11 : decode cJ11_newBytesLength 11 = .ok (.athrow, 1) := sorry
theorem dJ11_newBytesLength_12 : decode cJ11_newBytesLength 12 = .ok (.iload_n 0, 1) := sorry
theorem dJ11_newBytesLength_13 : decode cJ11_newBytesLength 13 = .ok (.ldc 20, 2) := sorry
theorem dJ11_newBytesLength_15 : decode cJ11_newBytesLength 15 = .ok (.if_icmp .lt 40, 3) := sorry
theorem dJ11_newBytesLength_18 : decode cJ11_newBytesLength 18 = .ok (.new 21, 3) := sorry
theorem dJ11_newBytesLength_21 : decode cJ11_newBytesLength 21 = .ok (.dup, 1) := sorry
theorem dJ11_newBytesLength_22 : decode cJ11_newBytesLength 22 = .ok (.new 23, 3) := sorry
theorem dJ11_newBytesLength_25 : decode cJ11_newBytesLength 25 = .ok (.dup, 1) := sorry
theorem dJ11_newBytesLength_26 : decode cJ11_newBytesLength 26 = .ok (.invokespecial 25, 3) := sorry
theorem dJ11_newBytesLength_29 : decode cJ11_newBytesLength 29 = .ok (.ldc 26, 2) := sorry
theorem dJ11_newBytesLength_31 : decode cJ11_newBytesLength 31 = .ok (.invokevirtual 28, 3) := sorry
theorem dJ11_newBytesLength_34 : decode cJ11_newBytesLength 34 = .ok (.iload_n 0, 1) := sorry
theorem dJ11_newBytesLength_35 : decode cJ11_newBytesLength 35 = .ok (.invokevirtual 32, 3) := sorry
theorem dJ11_newBytesLength_38 : decode cJ11_newBytesLength 38 = .ok (.ldc 35, 2) := sorry
theorem dJ11_newBytesLength_40 : decode cJ11_newBytesLength 40 = .ok (.invokevirtual 28, 3) := sorry
theorem dJ11_newBytesLength_43 : decode cJ11_newBytesLength 43 = .ok (.ldc 20, 2) := sorry
theorem dJ11_newBytesLength_45 : decode cJ11_newBytesLength 45 = .ok (.invokevirtual 32, 3) := sorry
theorem dJ11_newBytesLength_48 : decode cJ11_newBytesLength 48 = .ok (.invokevirtual 37, 3) := sorry
theorem dJ11_newBytesLength_51 : decode cJ11_newBytesLength 51 = .ok (.invokespecial 41, 3) := sorry
theorem dJ11_newBytesLength_54 : decode cJ11_newBytesLength 54 = .ok (.athrow, 1) := sorry
theorem dJ11_newBytesLength_55 : decode cJ11_newBytesLength 55 = .ok (.iload_n 0, 1) := sorry
theorem dJ11_newBytesLength_56 : decode cJ11_newBytesLength 56 = .ok (.iconst 1, 1) := sorry
theorem dJ11_newBytesLength_57 : decode cJ11_newBytesLength 57 = .ok (.ishl, 1) := sorry
theorem dJ11_newBytesLength_58 : decode cJ11_newBytesLength 58 = .ok (.ireturn, 1) := sorry
abbrev cJ11_putCharsAt : ByteArray := prog_38_method_81_code
def yJ11_putCharsAt : MethodName := ⟨RJ11, "putCharsAt", "([BICCCC)I"⟩
def dkwJ11_putCharsAt_3 : List UInt8 := [21, 6, 172]
abbrev dktJ11_putCharsAt_3 : List UInt8 := dkwJ11_putCharsAt_3 ++ []
def dkwJ11_putCharsAt_2 : List UInt8 := [184, 0, 111, 178, 0, 44, 154, 0, 17, 27, 21, 6, 159, 0, 11, 187, 0, 52, 89, 183, 0, 66, 191]
abbrev dktJ11_putCharsAt_2 : List UInt8 := dkwJ11_putCharsAt_2 ++ dktJ11_putCharsAt_3
def dkwJ11_putCharsAt_1 : List UInt8 := [132, 1, 1, 29, 184, 0, 111, 42, 27, 132, 1, 1, 21, 4, 184, 0, 111, 42, 27, 132, 1, 1, 21, 5]
abbrev dktJ11_putCharsAt_1 : List UInt8 := dkwJ11_putCharsAt_1 ++ dktJ11_putCharsAt_2
def dkwJ11_putCharsAt_0 : List UInt8 := [27, 7, 96, 54, 6, 27, 21, 6, 42, 184, 0, 96, 42, 27, 132, 1, 1, 28, 184, 0, 111, 42, 27]
abbrev dktJ11_putCharsAt_0 : List UInt8 := dkwJ11_putCharsAt_0 ++ dktJ11_putCharsAt_1
theorem dksJ11_putCharsAt_0 : cJ11_putCharsAt.data.toList.drop 0 = dktJ11_putCharsAt_0 := sorry
theorem dksJ11_putCharsAt_1 : cJ11_putCharsAt.data.toList.drop 23 = dktJ11_putCharsAt_1 := sorry
theorem dksJ11_putCharsAt_2 : cJ11_putCharsAt.data.toList.drop 47 = dktJ11_putCharsAt_2 := sorry
theorem dksJ11_putCharsAt_3 : cJ11_putCharsAt.data.toList.drop 70 = dktJ11_putCharsAt_3 := sorry
theorem dJ11_putCharsAt_0 : decode cJ11_putCharsAt 0 = .ok (.iload_n 1, 1) := sorry
theorem dJ11_putCharsAt_1 : decode cJ11_putCharsAt 1 = .ok (.iconst 4, 1) := sorry
theorem dJ11_putCharsAt_2 : decode cJ11_putCharsAt 2 = .ok (.iadd, 1) := sorry
theorem dJ11_putCharsAt_3 : decode cJ11_putCharsAt 3 = .ok (.istore 6, 2) := sorry
theorem dJ11_putCharsAt_5 : decode cJ11_putCharsAt 5 = .ok (.iload_n 1, 1) := sorry
theorem dJ11_putCharsAt_6 : decode cJ11_putCharsAt 6 = .ok (.iload 6, 2) := sorry
theorem dJ11_putCharsAt_8 : decode cJ11_putCharsAt 8 = .ok (.aload_n 0, 1) := sorry
theorem dJ11_putCharsAt_9 : decode cJ11_putCharsAt 9 = .ok (.invokestatic 96, 3) := sorry
theorem dJ11_putCharsAt_12 : decode cJ11_putCharsAt 12 = .ok (.aload_n 0, 1) := sorry
theorem dJ11_putCharsAt_13 : decode cJ11_putCharsAt 13 = .ok (.iload_n 1, 1) := sorry
theorem dJ11_putCharsAt_14 : decode cJ11_putCharsAt 14 = .ok (.iinc 1 1, 3) := sorry
theorem dJ11_putCharsAt_17 : decode cJ11_putCharsAt 17 = .ok (.iload_n 2, 1) := sorry
theorem dJ11_putCharsAt_18 : decode cJ11_putCharsAt 18 = .ok (.invokestatic 111, 3) := sorry
theorem dJ11_putCharsAt_21 : decode cJ11_putCharsAt 21 = .ok (.aload_n 0, 1) := sorry
theorem dJ11_putCharsAt_22 : decode cJ11_putCharsAt 22 = .ok (.iload_n 1, 1) := sorry
theorem dJ11_putCharsAt_23 : decode cJ11_putCharsAt 23 = .ok (.iinc 1 1, 3) := sorry
theorem dJ11_putCharsAt_26 : decode cJ11_putCharsAt 26 = .ok (.iload_n 3, 1) := sorry
theorem dJ11_putCharsAt_27 : decode cJ11_putCharsAt 27 = .ok (.invokestatic 111, 3) := sorry
theorem dJ11_putCharsAt_30 : decode cJ11_putCharsAt 30 = .ok (.aload_n 0, 1) := sorry
theorem dJ11_putCharsAt_31 : decode cJ11_putCharsAt 31 = .ok (.iload_n 1, 1) := sorry
theorem dJ11_putCharsAt_32 : decode cJ11_putCharsAt 32 = .ok (.iinc 1 1, 3) := sorry
theorem dJ11_putCharsAt_35 : decode cJ11_putCharsAt 35 = .ok (.iload 4, 2) := sorry
theorem dJ11_putCharsAt_37 : decode cJ11_putCharsAt 37 = .ok (.invokestatic 111, 3) := sorry
theorem dJ11_putCharsAt_40 : decode cJ11_putCharsAt 40 = .ok (.aload_n 0, 1) := sorry
theorem dJ11_putCharsAt_41 : decode cJ11_putCharsAt 41 = .ok (.iload_n 1, 1) := sorry
theorem dJ11_putCharsAt_42 : decode cJ11_putCharsAt 42 = .ok (.iinc 1 1, 3) := sorry
theorem dJ11_putCharsAt_45 : decode cJ11_putCharsAt 45 = .ok (.iload 5, 2) := sorry
theorem dJ11_putCharsAt_47 : decode cJ11_putCharsAt 47 = .ok (.invokestatic 111, 3) := sorry
theorem dJ11_putCharsAt_50 : decode cJ11_putCharsAt 50 = .ok (.getstatic 44, 3) := sorry
theorem dJ11_putCharsAt_53 : decode cJ11_putCharsAt 53 = .ok (.ifCond .ne 17, 3) := sorry
theorem dJ11_putCharsAt_56 : decode cJ11_putCharsAt 56 = .ok (.iload_n 1, 1) := sorry
theorem dJ11_putCharsAt_57 : decode cJ11_putCharsAt 57 = .ok (.iload 6, 2) := sorry
theorem dJ11_putCharsAt_59 : decode cJ11_putCharsAt 59 = .ok (.if_icmp .eq 11, 3) := sorry
theorem dJ11_putCharsAt_62 : decode cJ11_putCharsAt 62 = .ok (.new 52, 3) := sorry
theorem dJ11_putCharsAt_65 : decode cJ11_putCharsAt 65 = .ok (.dup, 1) := sorry
theorem dJ11_putCharsAt_66 : decode cJ11_putCharsAt 66 = .ok (.invokespecial 66, 3) := sorry
theorem dJ11_putCharsAt_69 : decode cJ11_putCharsAt 69 = .ok (.athrow, 1) := sorry
theorem dJ11_putCharsAt_70 : decode cJ11_putCharsAt 70 = .ok (.iload 6, 2) := sorry
theorem dJ11_putCharsAt_72 : decode cJ11_putCharsAt 72 = .ok (.ireturn, 1) := sorry
abbrev cJ11_checkBoundsBeginEnd : ByteArray := prog_38_method_93_code
def yJ11_checkBoundsBeginEnd : MethodName := ⟨RJ11, "checkBoundsBeginEnd", "(II[B)V"⟩
def dkwJ11_checkBoundsBeginEnd_0 : List UInt8 := [26, 27, 44, 184, 0, 48, 184, 0, 241, 177]
abbrev dktJ11_checkBoundsBeginEnd_0 : List UInt8 := dkwJ11_checkBoundsBeginEnd_0 ++ []
theorem dksJ11_checkBoundsBeginEnd_0 : cJ11_checkBoundsBeginEnd.data.toList.drop 0 = dktJ11_checkBoundsBeginEnd_0 := sorry
theorem dJ11_checkBoundsBeginEnd_0 : decode cJ11_checkBoundsBeginEnd 0 = .ok (.iload_n 0, 1) := sorry
theorem dJ11_checkBoundsBeginEnd_1 : decode cJ11_checkBoundsBeginEnd 1 = .ok (.iload_n 1, 1) := sorry
theorem dJ11_checkBoundsBeginEnd_2 : decode cJ11_checkBoundsBeginEnd 2 = .ok (.aload_n 2, 1) := sorry
theorem dJ11_checkBoundsBeginEnd_3 : decode cJ11_checkBoundsBeginEnd 3 = .ok (.invokestatic 48, 3) := sorry
theorem dJ11_checkBoundsBeginEnd_6 : decode cJ11_checkBoundsBeginEnd 6 = .ok (.invokestatic 241, 3) := sorry
theorem dJ11_checkBoundsBeginEnd_9 : decode cJ11_checkBoundsBeginEnd 9 = .ok (.return_, 1) := sorry
abbrev cJ11_length : ByteArray := prog_38_method_6_code
def yJ11_length : MethodName := ⟨RJ11, "length", "([B)I"⟩
def dkwJ11_length_0 : List UInt8 := [42, 190, 4, 122, 172]
abbrev dktJ11_length_0 : List UInt8 := dkwJ11_length_0 ++ []
theorem dksJ11_length_0 : cJ11_length.data.toList.drop 0 = dktJ11_length_0 := sorry
theorem dJ11_length_0 : decode cJ11_length 0 = .ok (.aload_n 0, 1) := sorry
theorem dJ11_length_1 : decode cJ11_length 1 = .ok (.arraylength, 1) := sorry
theorem dJ11_length_2 : decode cJ11_length 2 = .ok (.iconst 1, 1) := sorry
theorem dJ11_length_3 : decode cJ11_length 3 = .ok (.ishr, 1) := sorry
theorem dJ11_length_4 : decode cJ11_length 4 = .ok (.ireturn, 1) := sorry
abbrev cJ11_putChar : ByteArray := prog_38_method_4_code
def yJ11_putChar : MethodName := ⟨RJ11, "putChar", "([BII)V"⟩
def dkwJ11_putChar_2 : List UInt8 := [178, 0, 63, 122, 145, 84, 177]
abbrev dktJ11_putChar_2 : List UInt8 := dkwJ11_putChar_2 ++ []
def dkwJ11_putChar_1 : List UInt8 := [183, 0, 56, 191, 27, 4, 120, 60, 42, 27, 132, 1, 1, 28, 178, 0, 59, 122, 145, 84, 42, 27, 28]
abbrev dktJ11_putChar_1 : List UInt8 := dkwJ11_putChar_1 ++ dktJ11_putChar_2
def dkwJ11_putChar_0 : List UInt8 := [178, 0, 44, 154, 0, 25, 27, 155, 0, 11, 27, 42, 184, 0, 48, 161, 0, 13, 187, 0, 52, 89, 18, 54]
abbrev dktJ11_putChar_0 : List UInt8 := dkwJ11_putChar_0 ++ dktJ11_putChar_1
theorem dksJ11_putChar_0 : cJ11_putChar.data.toList.drop 0 = dktJ11_putChar_0 := sorry
theorem dksJ11_putChar_1 : cJ11_putChar.data.toList.drop 24 = dktJ11_putChar_1 := sorry
theorem dksJ11_putChar_2 : cJ11_putChar.data.toList.drop 47 = dktJ11_putChar_2 := sorry
theorem dJ11_putChar_0 : decode cJ11_putChar 0 = .ok (.getstatic 44, 3) := sorry
theorem dJ11_putChar_3 : decode cJ11_putChar 3 = .ok (.ifCond .ne 25, 3) := sorry
theorem dJ11_putChar_6 : decode cJ11_putChar 6 = .ok (.iload_n 1, 1) := sorry
theorem dJ11_putChar_7 : decode cJ11_putChar 7 = .ok (.ifCond .lt 11, 3) := sorry
theorem dJ11_putChar_10 : decode cJ11_putChar 10 = .ok (.iload_n 1, 1) := sorry
theorem dJ11_putChar_11 : decode cJ11_putChar 11 = .ok (.aload_n 0, 1) := sorry
theorem dJ11_putChar_12 : decode cJ11_putChar 12 = .ok (.invokestatic 48, 3) := sorry
theorem dJ11_putChar_15 : decode cJ11_putChar 15 = .ok (.if_icmp .lt 13, 3) := sorry
theorem dJ11_putChar_18 : decode cJ11_putChar 18 = .ok (.new 52, 3) := sorry
theorem dJ11_putChar_21 : decode cJ11_putChar 21 = .ok (.dup, 1) := sorry
theorem dJ11_putChar_22 : decode cJ11_putChar 22 = .ok (.ldc 54, 2) := sorry
theorem dJ11_putChar_24 : decode cJ11_putChar 24 = .ok (.invokespecial 56, 3) := sorry
theorem dJ11_putChar_27 : decode cJ11_putChar 27 = .ok (.athrow, 1) := sorry
theorem dJ11_putChar_28 : decode cJ11_putChar 28 = .ok (.iload_n 1, 1) := sorry
theorem dJ11_putChar_29 : decode cJ11_putChar 29 = .ok (.iconst 1, 1) := sorry
theorem dJ11_putChar_30 : decode cJ11_putChar 30 = .ok (.ishl, 1) := sorry
theorem dJ11_putChar_31 : decode cJ11_putChar 31 = .ok (.istore_n 1, 1) := sorry
theorem dJ11_putChar_32 : decode cJ11_putChar 32 = .ok (.aload_n 0, 1) := sorry
theorem dJ11_putChar_33 : decode cJ11_putChar 33 = .ok (.iload_n 1, 1) := sorry
theorem dJ11_putChar_34 : decode cJ11_putChar 34 = .ok (.iinc 1 1, 3) := sorry
theorem dJ11_putChar_37 : decode cJ11_putChar 37 = .ok (.iload_n 2, 1) := sorry
theorem dJ11_putChar_38 : decode cJ11_putChar 38 = .ok (.getstatic 59, 3) := sorry
theorem dJ11_putChar_41 : decode cJ11_putChar 41 = .ok (.ishr, 1) := sorry
theorem dJ11_putChar_42 : decode cJ11_putChar 42 = .ok (.i2b, 1) := sorry
theorem dJ11_putChar_43 : decode cJ11_putChar 43 = .ok (.bastore, 1) := sorry
theorem dJ11_putChar_44 : decode cJ11_putChar 44 = .ok (.aload_n 0, 1) := sorry
theorem dJ11_putChar_45 : decode cJ11_putChar 45 = .ok (.iload_n 1, 1) := sorry
theorem dJ11_putChar_46 : decode cJ11_putChar 46 = .ok (.iload_n 2, 1) := sorry
theorem dJ11_putChar_47 : decode cJ11_putChar 47 = .ok (.getstatic 63, 3) := sorry
theorem dJ11_putChar_50 : decode cJ11_putChar 50 = .ok (.ishr, 1) := sorry
theorem dJ11_putChar_51 : decode cJ11_putChar 51 = .ok (.i2b, 1) := sorry
theorem dJ11_putChar_52 : decode cJ11_putChar 52 = .ok (.bastore, 1) := sorry
theorem dJ11_putChar_53 : decode cJ11_putChar 53 = .ok (.return_, 1) := sorry
abbrev cJ11_inflate : ByteArray := prog_38_method_86_code
def yJ11_inflate : MethodName := ⟨RJ11, "inflate", "([BI[BII)V"⟩
def dkwJ11_inflate_1 : List UInt8 := [132, 1, 1, 51, 17, 0, 255, 126, 184, 0, 111, 132, 5, 1, 167, 255, 228, 177]
abbrev dktJ11_inflate_1 : List UInt8 := dkwJ11_inflate_1 ++ []
def dkwJ11_inflate_0 : List UInt8 := [29, 21, 4, 44, 184, 0, 173, 3, 54, 5, 21, 5, 21, 4, 162, 0, 27, 44, 29, 132, 3, 1, 42, 27]
abbrev dktJ11_inflate_0 : List UInt8 := dkwJ11_inflate_0 ++ dktJ11_inflate_1
theorem dksJ11_inflate_0 : cJ11_inflate.data.toList.drop 0 = dktJ11_inflate_0 := sorry
theorem dksJ11_inflate_1 : cJ11_inflate.data.toList.drop 24 = dktJ11_inflate_1 := sorry
theorem dJ11_inflate_0 : decode cJ11_inflate 0 = .ok (.iload_n 3, 1) := sorry
theorem dJ11_inflate_1 : decode cJ11_inflate 1 = .ok (.iload 4, 2) := sorry
theorem dJ11_inflate_3 : decode cJ11_inflate 3 = .ok (.aload_n 2, 1) := sorry
theorem dJ11_inflate_4 : decode cJ11_inflate 4 = .ok (.invokestatic 173, 3) := sorry
theorem dJ11_inflate_7 : decode cJ11_inflate 7 = .ok (.iconst 0, 1) := sorry
theorem dJ11_inflate_8 : decode cJ11_inflate 8 = .ok (.istore 5, 2) := sorry
theorem dJ11_inflate_10 : decode cJ11_inflate 10 = .ok (.iload 5, 2) := sorry
theorem dJ11_inflate_12 : decode cJ11_inflate 12 = .ok (.iload 4, 2) := sorry
theorem dJ11_inflate_14 : decode cJ11_inflate 14 = .ok (.if_icmp .ge 27, 3) := sorry
theorem dJ11_inflate_17 : decode cJ11_inflate 17 = .ok (.aload_n 2, 1) := sorry
theorem dJ11_inflate_18 : decode cJ11_inflate 18 = .ok (.iload_n 3, 1) := sorry
theorem dJ11_inflate_19 : decode cJ11_inflate 19 = .ok (.iinc 3 1, 3) := sorry
theorem dJ11_inflate_22 : decode cJ11_inflate 22 = .ok (.aload_n 0, 1) := sorry
theorem dJ11_inflate_23 : decode cJ11_inflate 23 = .ok (.iload_n 1, 1) := sorry
theorem dJ11_inflate_24 : decode cJ11_inflate 24 = .ok (.iinc 1 1, 3) := sorry
theorem dJ11_inflate_27 : decode cJ11_inflate 27 = .ok (.baload, 1) := sorry
theorem dJ11_inflate_28 : decode cJ11_inflate 28 = .ok (.sipush 255, 3) := sorry
theorem dJ11_inflate_31 : decode cJ11_inflate 31 = .ok (.iand, 1) := sorry
theorem dJ11_inflate_32 : decode cJ11_inflate 32 = .ok (.invokestatic 111, 3) := sorry
theorem dJ11_inflate_35 : decode cJ11_inflate 35 = .ok (.iinc 5 1, 3) := sorry
theorem dJ11_inflate_38 : decode cJ11_inflate 38 = .ok (.goto (-28), 3) := sorry
theorem dJ11_inflate_41 : decode cJ11_inflate 41 = .ok (.return_, 1) := sorry
abbrev cJ11_checkBoundsOffCount : ByteArray := prog_38_method_94_code
def yJ11_checkBoundsOffCount : MethodName := ⟨RJ11, "checkBoundsOffCount", "(II[B)V"⟩
def dkwJ11_checkBoundsOffCount_0 : List UInt8 := [26, 27, 44, 184, 0, 48, 184, 1, 163, 87, 177]
abbrev dktJ11_checkBoundsOffCount_0 : List UInt8 := dkwJ11_checkBoundsOffCount_0 ++ []
theorem dksJ11_checkBoundsOffCount_0 : cJ11_checkBoundsOffCount.data.toList.drop 0 = dktJ11_checkBoundsOffCount_0 := sorry
theorem dJ11_checkBoundsOffCount_0 : decode cJ11_checkBoundsOffCount 0 = .ok (.iload_n 0, 1) := sorry
theorem dJ11_checkBoundsOffCount_1 : decode cJ11_checkBoundsOffCount 1 = .ok (.iload_n 1, 1) := sorry
theorem dJ11_checkBoundsOffCount_2 : decode cJ11_checkBoundsOffCount 2 = .ok (.aload_n 2, 1) := sorry
theorem dJ11_checkBoundsOffCount_3 : decode cJ11_checkBoundsOffCount 3 = .ok (.invokestatic 48, 3) := sorry
theorem dJ11_checkBoundsOffCount_6 : decode cJ11_checkBoundsOffCount 6 = .ok (.invokestatic 419, 3) := sorry
theorem dJ11_checkBoundsOffCount_9 : decode cJ11_checkBoundsOffCount 9 = .ok (.pop, 1) := sorry
theorem dJ11_checkBoundsOffCount_10 : decode cJ11_checkBoundsOffCount 10 = .ok (.return_, 1) := sorry
abbrev cJ11_getChars : ByteArray := prog_38_method_77_code
def yJ11_getChars : MethodName := ⟨RJ11, "getChars", "(III[B)I"⟩
def dkwJ11_getChars_1 : List UInt8 := [159, 0, 11, 187, 0, 52, 89, 183, 0, 66, 191, 21, 4, 172]
abbrev dktJ11_getChars_1 : List UInt8 := dkwJ11_getChars_1 ++ []
def dkwJ11_getChars_0 : List UInt8 := [27, 28, 45, 184, 0, 96, 26, 28, 45, 184, 1, 137, 54, 4, 178, 0, 44, 154, 0, 17, 27, 21, 4]
abbrev dktJ11_getChars_0 : List UInt8 := dkwJ11_getChars_0 ++ dktJ11_getChars_1
theorem dksJ11_getChars_0 : cJ11_getChars.data.toList.drop 0 = dktJ11_getChars_0 := sorry
theorem dksJ11_getChars_1 : cJ11_getChars.data.toList.drop 23 = dktJ11_getChars_1 := sorry
theorem dJ11_getChars_0 : decode cJ11_getChars 0 = .ok (.iload_n 1, 1) := sorry
theorem dJ11_getChars_1 : decode cJ11_getChars 1 = .ok (.iload_n 2, 1) := sorry
theorem dJ11_getChars_2 : decode cJ11_getChars 2 = .ok (.aload_n 3, 1) := sorry
theorem dJ11_getChars_3 : decode cJ11_getChars 3 = .ok (.invokestatic 96, 3) := sorry
theorem dJ11_getChars_6 : decode cJ11_getChars 6 = .ok (.iload_n 0, 1) := sorry
theorem dJ11_getChars_7 : decode cJ11_getChars 7 = .ok (.iload_n 2, 1) := sorry
theorem dJ11_getChars_8 : decode cJ11_getChars 8 = .ok (.aload_n 3, 1) := sorry
theorem dJ11_getChars_9 : decode cJ11_getChars 9 = .ok (.invokestatic 393, 3) := sorry
theorem dJ11_getChars_12 : decode cJ11_getChars 12 = .ok (.istore 4, 2) := sorry
theorem dJ11_getChars_14 : decode cJ11_getChars 14 = .ok (.getstatic 44, 3) := sorry
theorem dJ11_getChars_17 : decode cJ11_getChars 17 = .ok (.ifCond .ne 17, 3) := sorry
theorem dJ11_getChars_20 : decode cJ11_getChars 20 = .ok (.iload_n 1, 1) := sorry
theorem dJ11_getChars_21 : decode cJ11_getChars 21 = .ok (.iload 4, 2) := sorry
theorem dJ11_getChars_23 : decode cJ11_getChars 23 = .ok (.if_icmp .eq 11, 3) := sorry
theorem dJ11_getChars_26 : decode cJ11_getChars 26 = .ok (.new 52, 3) := sorry
theorem dJ11_getChars_29 : decode cJ11_getChars 29 = .ok (.dup, 1) := sorry
theorem dJ11_getChars_30 : decode cJ11_getChars 30 = .ok (.invokespecial 66, 3) := sorry
theorem dJ11_getChars_33 : decode cJ11_getChars 33 = .ok (.athrow, 1) := sorry
theorem dJ11_getChars_34 : decode cJ11_getChars 34 = .ok (.iload 4, 2) := sorry
theorem dJ11_getChars_36 : decode cJ11_getChars 36 = .ok (.ireturn, 1) := sorry
abbrev cJ11_getChars_2 : ByteArray := prog_38_method_89_code
def yJ11_getChars_2 : MethodName := ⟨RJ11, "getChars", "(II[B)I"⟩
def dkwJ11_getChars_2_5 : List UInt8 := [132, 5, 255, 21, 5, 16, 45, 184, 0, 111, 21, 5, 172]
abbrev dktJ11_getChars_2_5 : List UInt8 := dkwJ11_getChars_2_5 ++ []
def dkwJ11_getChars_2_4 : List UInt8 := [162, 0, 18, 44, 132, 5, 255, 21, 5, 178, 1, 151, 26, 116, 51, 184, 0, 111, 21, 6, 153, 0, 14, 44]
abbrev dktJ11_getChars_2_4 : List UInt8 := dkwJ11_getChars_2_4 ++ dktJ11_getChars_2_5
def dkwJ11_getChars_2_3 : List UInt8 := [184, 0, 111, 167, 255, 205, 44, 132, 5, 255, 21, 5, 178, 1, 147, 26, 116, 51, 184, 0, 111, 26, 16, 247]
abbrev dktJ11_getChars_2_3 : List UInt8 := dkwJ11_getChars_2_3 ++ dktJ11_getChars_2_4
def dkwJ11_getChars_2_2 : List UInt8 := [21, 5, 178, 1, 147, 21, 4, 51, 184, 0, 111, 44, 132, 5, 255, 21, 5, 178, 1, 151, 21, 4, 51]
abbrev dktJ11_getChars_2_2 : List UInt8 := dkwJ11_getChars_2_2 ++ dktJ11_getChars_2_3
def dkwJ11_getChars_2_1 : List UInt8 := [16, 156, 163, 0, 51, 26, 16, 100, 108, 62, 29, 16, 100, 104, 26, 100, 54, 4, 29, 59, 44, 132, 5, 255]
abbrev dktJ11_getChars_2_1 : List UInt8 := dkwJ11_getChars_2_1 ++ dktJ11_getChars_2_2
def dkwJ11_getChars_2_0 : List UInt8 := [27, 54, 5, 26, 156, 0, 7, 4, 167, 0, 4, 3, 54, 6, 21, 6, 154, 0, 6, 26, 116, 59, 26]
abbrev dktJ11_getChars_2_0 : List UInt8 := dkwJ11_getChars_2_0 ++ dktJ11_getChars_2_1
theorem dksJ11_getChars_2_0 : cJ11_getChars_2.data.toList.drop 0 = dktJ11_getChars_2_0 := sorry
theorem dksJ11_getChars_2_1 : cJ11_getChars_2.data.toList.drop 23 = dktJ11_getChars_2_1 := sorry
theorem dksJ11_getChars_2_2 : cJ11_getChars_2.data.toList.drop 47 = dktJ11_getChars_2_2 := sorry
theorem dksJ11_getChars_2_3 : cJ11_getChars_2.data.toList.drop 70 = dktJ11_getChars_2_3 := sorry
theorem dksJ11_getChars_2_4 : cJ11_getChars_2.data.toList.drop 94 = dktJ11_getChars_2_4 := sorry
theorem dksJ11_getChars_2_5 : cJ11_getChars_2.data.toList.drop 118 = dktJ11_getChars_2_5 := sorry
theorem dJ11_getChars_2_0 : decode cJ11_getChars_2 0 = .ok (.iload_n 1, 1) := sorry
theorem dJ11_getChars_2_1 : decode cJ11_getChars_2 1 = .ok (.istore 5, 2) := sorry
theorem dJ11_getChars_2_3 : decode cJ11_getChars_2 3 = .ok (.iload_n 0, 1) := sorry
theorem dJ11_getChars_2_4 : decode cJ11_getChars_2 4 = .ok (.ifCond .ge 7, 3) := sorry
theorem dJ11_getChars_2_7 : decode cJ11_getChars_2 7 = .ok (.iconst 1, 1) := sorry
theorem dJ11_getChars_2_8 : decode cJ11_getChars_2 8 = .ok (.goto 4, 3) := sorry
theorem dJ11_getChars_2_11 : decode cJ11_getChars_2 11 = .ok (.iconst 0, 1) := sorry
theorem dJ11_getChars_2_12 : decode cJ11_getChars_2 12 = .ok (.istore 6, 2) := sorry
theorem dJ11_getChars_2_14 : decode cJ11_getChars_2 14 = .ok (.iload 6, 2) := sorry
theorem dJ11_getChars_2_16 : decode cJ11_getChars_2 16 = .ok (.ifCond .ne 6, 3) := sorry
theorem dJ11_getChars_2_19 : decode cJ11_getChars_2 19 = .ok (.iload_n 0, 1) := sorry
theorem dJ11_getChars_2_20 : decode cJ11_getChars_2 20 = .ok (.ineg, 1) := sorry
theorem dJ11_getChars_2_21 : decode cJ11_getChars_2 21 = .ok (.istore_n 0, 1) := sorry
theorem dJ11_getChars_2_22 : decode cJ11_getChars_2 22 = .ok (.iload_n 0, 1) := sorry
theorem dJ11_getChars_2_23 : decode cJ11_getChars_2 23 = .ok (.bipush (-100), 2) := sorry
theorem dJ11_getChars_2_25 : decode cJ11_getChars_2 25 = .ok (.if_icmp .gt 51, 3) := sorry
theorem dJ11_getChars_2_28 : decode cJ11_getChars_2 28 = .ok (.iload_n 0, 1) := sorry
theorem dJ11_getChars_2_29 : decode cJ11_getChars_2 29 = .ok (.bipush 100, 2) := sorry
theorem dJ11_getChars_2_31 : decode cJ11_getChars_2 31 = .ok (.idiv, 1) := sorry
theorem dJ11_getChars_2_32 : decode cJ11_getChars_2 32 = .ok (.istore_n 3, 1) := sorry
theorem dJ11_getChars_2_33 : decode cJ11_getChars_2 33 = .ok (.iload_n 3, 1) := sorry
theorem dJ11_getChars_2_34 : decode cJ11_getChars_2 34 = .ok (.bipush 100, 2) := sorry
theorem dJ11_getChars_2_36 : decode cJ11_getChars_2 36 = .ok (.imul, 1) := sorry
theorem dJ11_getChars_2_37 : decode cJ11_getChars_2 37 = .ok (.iload_n 0, 1) := sorry
theorem dJ11_getChars_2_38 : decode cJ11_getChars_2 38 = .ok (.isub, 1) := sorry
theorem dJ11_getChars_2_39 : decode cJ11_getChars_2 39 = .ok (.istore 4, 2) := sorry
theorem dJ11_getChars_2_41 : decode cJ11_getChars_2 41 = .ok (.iload_n 3, 1) := sorry
theorem dJ11_getChars_2_42 : decode cJ11_getChars_2 42 = .ok (.istore_n 0, 1) := sorry
theorem dJ11_getChars_2_43 : decode cJ11_getChars_2 43 = .ok (.aload_n 2, 1) := sorry
theorem dJ11_getChars_2_44 : decode cJ11_getChars_2 44 = .ok (.iinc 5 (-1), 3) := sorry
theorem dJ11_getChars_2_47 : decode cJ11_getChars_2 47 = .ok (.iload 5, 2) := sorry
theorem dJ11_getChars_2_49 : decode cJ11_getChars_2 49 = .ok (.getstatic 403, 3) := sorry
theorem dJ11_getChars_2_52 : decode cJ11_getChars_2 52 = .ok (.iload 4, 2) := sorry
theorem dJ11_getChars_2_54 : decode cJ11_getChars_2 54 = .ok (.baload, 1) := sorry
theorem dJ11_getChars_2_55 : decode cJ11_getChars_2 55 = .ok (.invokestatic 111, 3) := sorry
theorem dJ11_getChars_2_58 : decode cJ11_getChars_2 58 = .ok (.aload_n 2, 1) := sorry
theorem dJ11_getChars_2_59 : decode cJ11_getChars_2 59 = .ok (.iinc 5 (-1), 3) := sorry
theorem dJ11_getChars_2_62 : decode cJ11_getChars_2 62 = .ok (.iload 5, 2) := sorry
theorem dJ11_getChars_2_64 : decode cJ11_getChars_2 64 = .ok (.getstatic 407, 3) := sorry
theorem dJ11_getChars_2_67 : decode cJ11_getChars_2 67 = .ok (.iload 4, 2) := sorry
theorem dJ11_getChars_2_69 : decode cJ11_getChars_2 69 = .ok (.baload, 1) := sorry
theorem dJ11_getChars_2_70 : decode cJ11_getChars_2 70 = .ok (.invokestatic 111, 3) := sorry
theorem dJ11_getChars_2_73 : decode cJ11_getChars_2 73 = .ok (.goto (-51), 3) := sorry
theorem dJ11_getChars_2_76 : decode cJ11_getChars_2 76 = .ok (.aload_n 2, 1) := sorry
theorem dJ11_getChars_2_77 : decode cJ11_getChars_2 77 = .ok (.iinc 5 (-1), 3) := sorry
theorem dJ11_getChars_2_80 : decode cJ11_getChars_2 80 = .ok (.iload 5, 2) := sorry
theorem dJ11_getChars_2_82 : decode cJ11_getChars_2 82 = .ok (.getstatic 403, 3) := sorry
theorem dJ11_getChars_2_85 : decode cJ11_getChars_2 85 = .ok (.iload_n 0, 1) := sorry
theorem dJ11_getChars_2_86 : decode cJ11_getChars_2 86 = .ok (.ineg, 1) := sorry
theorem dJ11_getChars_2_87 : decode cJ11_getChars_2 87 = .ok (.baload, 1) := sorry
theorem dJ11_getChars_2_88 : decode cJ11_getChars_2 88 = .ok (.invokestatic 111, 3) := sorry
theorem dJ11_getChars_2_91 : decode cJ11_getChars_2 91 = .ok (.iload_n 0, 1) := sorry
theorem dJ11_getChars_2_92 : decode cJ11_getChars_2 92 = .ok (.bipush (-9), 2) := sorry
theorem dJ11_getChars_2_94 : decode cJ11_getChars_2 94 = .ok (.if_icmp .ge 18, 3) := sorry
theorem dJ11_getChars_2_97 : decode cJ11_getChars_2 97 = .ok (.aload_n 2, 1) := sorry
theorem dJ11_getChars_2_98 : decode cJ11_getChars_2 98 = .ok (.iinc 5 (-1), 3) := sorry
theorem dJ11_getChars_2_101 : decode cJ11_getChars_2 101 = .ok (.iload 5, 2) := sorry
theorem dJ11_getChars_2_103 : decode cJ11_getChars_2 103 = .ok (.getstatic 407, 3) := sorry
theorem dJ11_getChars_2_106 : decode cJ11_getChars_2 106 = .ok (.iload_n 0, 1) := sorry
theorem dJ11_getChars_2_107 : decode cJ11_getChars_2 107 = .ok (.ineg, 1) := sorry
theorem dJ11_getChars_2_108 : decode cJ11_getChars_2 108 = .ok (.baload, 1) := sorry
theorem dJ11_getChars_2_109 : decode cJ11_getChars_2 109 = .ok (.invokestatic 111, 3) := sorry
theorem dJ11_getChars_2_112 : decode cJ11_getChars_2 112 = .ok (.iload 6, 2) := sorry
theorem dJ11_getChars_2_114 : decode cJ11_getChars_2 114 = .ok (.ifCond .eq 14, 3) := sorry
theorem dJ11_getChars_2_117 : decode cJ11_getChars_2 117 = .ok (.aload_n 2, 1) := sorry
theorem dJ11_getChars_2_118 : decode cJ11_getChars_2 118 = .ok (.iinc 5 (-1), 3) := sorry
theorem dJ11_getChars_2_121 : decode cJ11_getChars_2 121 = .ok (.iload 5, 2) := sorry
theorem dJ11_getChars_2_123 : decode cJ11_getChars_2 123 = .ok (.bipush 45, 2) := sorry
theorem dJ11_getChars_2_125 : decode cJ11_getChars_2 125 = .ok (.invokestatic 111, 3) := sorry
theorem dJ11_getChars_2_128 : decode cJ11_getChars_2 128 = .ok (.iload 5, 2) := sorry
theorem dJ11_getChars_2_130 : decode cJ11_getChars_2 130 = .ok (.ireturn, 1) := sorry
abbrev cJ11_compress : ByteArray := prog_38_method_17_code
def yJ11_compress : MethodName := ⟨RJ11, "compress", "([BII)[B"⟩
def dkwJ11_compress_2 : List UInt8 := [25, 5, 3, 45, 3, 28, 184, 0, 123, 28, 159, 0, 6, 25, 5, 176, 45, 176]
abbrev dktJ11_compress_2 : List UInt8 := dkwJ11_compress_2 ++ []
def dkwJ11_compress_1 : List UInt8 := [27, 28, 96, 184, 0, 11, 184, 0, 126, 58, 5, 25, 5, 21, 4, 184, 0, 71, 17, 0, 255, 163, 0, 16]
abbrev dktJ11_compress_1 : List UInt8 := dkwJ11_compress_1 ++ dktJ11_compress_2
def dkwJ11_compress_0 : List UInt8 := [28, 188, 8, 78, 42, 27, 45, 3, 28, 184, 0, 123, 54, 4, 21, 4, 28, 159, 0, 47, 42, 27, 4, 120]
abbrev dktJ11_compress_0 : List UInt8 := dkwJ11_compress_0 ++ dktJ11_compress_1
theorem dksJ11_compress_0 : cJ11_compress.data.toList.drop 0 = dktJ11_compress_0 := sorry
theorem dksJ11_compress_1 : cJ11_compress.data.toList.drop 24 = dktJ11_compress_1 := sorry
theorem dksJ11_compress_2 : cJ11_compress.data.toList.drop 48 = dktJ11_compress_2 := sorry
theorem dJ11_compress_0 : decode cJ11_compress 0 = .ok (.iload_n 2, 1) := sorry
theorem dJ11_compress_1 : decode cJ11_compress 1 = .ok (.newarray .byte, 2) := sorry
theorem dJ11_compress_3 : decode cJ11_compress 3 = .ok (.astore_n 3, 1) := sorry
theorem dJ11_compress_4 : decode cJ11_compress 4 = .ok (.aload_n 0, 1) := sorry
theorem dJ11_compress_5 : decode cJ11_compress 5 = .ok (.iload_n 1, 1) := sorry
theorem dJ11_compress_6 : decode cJ11_compress 6 = .ok (.aload_n 3, 1) := sorry
theorem dJ11_compress_7 : decode cJ11_compress 7 = .ok (.iconst 0, 1) := sorry
theorem dJ11_compress_8 : decode cJ11_compress 8 = .ok (.iload_n 2, 1) := sorry
theorem dJ11_compress_9 : decode cJ11_compress 9 = .ok (.invokestatic 123, 3) := sorry
theorem dJ11_compress_12 : decode cJ11_compress 12 = .ok (.istore 4, 2) := sorry
theorem dJ11_compress_14 : decode cJ11_compress 14 = .ok (.iload 4, 2) := sorry
theorem dJ11_compress_16 : decode cJ11_compress 16 = .ok (.iload_n 2, 1) := sorry
theorem dJ11_compress_17 : decode cJ11_compress 17 = .ok (.if_icmp .eq 47, 3) := sorry
theorem dJ11_compress_20 : decode cJ11_compress 20 = .ok (.aload_n 0, 1) := sorry
theorem dJ11_compress_21 : decode cJ11_compress 21 = .ok (.iload_n 1, 1) := sorry
theorem dJ11_compress_22 : decode cJ11_compress 22 = .ok (.iconst 1, 1) := sorry
theorem dJ11_compress_23 : decode cJ11_compress 23 = .ok (.ishl, 1) := sorry
theorem dJ11_compress_24 : decode cJ11_compress 24 = .ok (.iload_n 1, 1) := sorry
theorem dJ11_compress_25 : decode cJ11_compress 25 = .ok (.iload_n 2, 1) := sorry
theorem dJ11_compress_26 : decode cJ11_compress 26 = .ok (.iadd, 1) := sorry
theorem dJ11_compress_27 : decode cJ11_compress 27 = .ok (.invokestatic 11, 3) := sorry
theorem dJ11_compress_30 : decode cJ11_compress 30 = .ok (.invokestatic 126, 3) := sorry
theorem dJ11_compress_33 : decode cJ11_compress 33 = .ok (.astore 5, 2) := sorry
theorem dJ11_compress_35 : decode cJ11_compress 35 = .ok (.aload 5, 2) := sorry
theorem dJ11_compress_37 : decode cJ11_compress 37 = .ok (.iload 4, 2) := sorry
theorem dJ11_compress_39 : decode cJ11_compress 39 = .ok (.invokestatic 71, 3) := sorry
theorem dJ11_compress_42 : decode cJ11_compress 42 = .ok (.sipush 255, 3) := sorry
theorem dJ11_compress_45 : decode cJ11_compress 45 = .ok (.if_icmp .gt 16, 3) := sorry
theorem dJ11_compress_48 : decode cJ11_compress 48 = .ok (.aload 5, 2) := sorry
theorem dJ11_compress_50 : decode cJ11_compress 50 = .ok (.iconst 0, 1) := sorry
theorem dJ11_compress_51 : decode cJ11_compress 51 = .ok (.aload_n 3, 1) := sorry
theorem dJ11_compress_52 : decode cJ11_compress 52 = .ok (.iconst 0, 1) := sorry
theorem dJ11_compress_53 : decode cJ11_compress 53 = .ok (.iload_n 2, 1) := sorry
theorem dJ11_compress_54 : decode cJ11_compress 54 = .ok (.invokestatic 123, 3) := sorry
theorem dJ11_compress_57 : decode cJ11_compress 57 = .ok (.iload_n 2, 1) := sorry
theorem dJ11_compress_58 : decode cJ11_compress 58 = .ok (.if_icmp .eq 6, 3) := sorry
theorem dJ11_compress_61 : decode cJ11_compress 61 = .ok (.aload 5, 2) := sorry
theorem dJ11_compress_63 : decode cJ11_compress 63 = .ok (.areturn, 1) := sorry
theorem dJ11_compress_64 : decode cJ11_compress 64 = .ok (.aload_n 3, 1) := sorry
theorem dJ11_compress_65 : decode cJ11_compress 65 = .ok (.areturn, 1) := sorry
abbrev cJ11_compress_2 : ByteArray := prog_38_method_22_code
def yJ11_compress_2 : MethodName := ⟨RJ11, "compress", "([BI[BII)I"⟩
def dkwJ11_compress_2_2 : List UInt8 := [132, 5, 1, 167, 255, 216, 21, 4, 172]
abbrev dktJ11_compress_2_2 : List UInt8 := dkwJ11_compress_2_2 ++ []
def dkwJ11_compress_2_1 : List UInt8 := [21, 6, 17, 0, 255, 164, 0, 6, 21, 5, 172, 44, 29, 21, 6, 145, 84, 132, 1, 1, 132, 3, 1]
abbrev dktJ11_compress_2_1 : List UInt8 := dkwJ11_compress_2_1 ++ dktJ11_compress_2_2
def dkwJ11_compress_2_0 : List UInt8 := [27, 21, 4, 42, 184, 0, 173, 3, 54, 5, 21, 5, 21, 4, 162, 0, 39, 42, 27, 184, 0, 71, 54, 6]
abbrev dktJ11_compress_2_0 : List UInt8 := dkwJ11_compress_2_0 ++ dktJ11_compress_2_1
theorem dksJ11_compress_2_0 : cJ11_compress_2.data.toList.drop 0 = dktJ11_compress_2_0 := sorry
theorem dksJ11_compress_2_1 : cJ11_compress_2.data.toList.drop 24 = dktJ11_compress_2_1 := sorry
theorem dksJ11_compress_2_2 : cJ11_compress_2.data.toList.drop 47 = dktJ11_compress_2_2 := sorry
theorem dJ11_compress_2_0 : decode cJ11_compress_2 0 = .ok (.iload_n 1, 1) := sorry
theorem dJ11_compress_2_1 : decode cJ11_compress_2 1 = .ok (.iload 4, 2) := sorry
theorem dJ11_compress_2_3 : decode cJ11_compress_2 3 = .ok (.aload_n 0, 1) := sorry
theorem dJ11_compress_2_4 : decode cJ11_compress_2 4 = .ok (.invokestatic 173, 3) := sorry
theorem dJ11_compress_2_7 : decode cJ11_compress_2 7 = .ok (.iconst 0, 1) := sorry
theorem dJ11_compress_2_8 : decode cJ11_compress_2 8 = .ok (.istore 5, 2) := sorry
theorem dJ11_compress_2_10 : decode cJ11_compress_2 10 = .ok (.iload 5, 2) := sorry
theorem dJ11_compress_2_12 : decode cJ11_compress_2 12 = .ok (.iload 4, 2) := sorry
theorem dJ11_compress_2_14 : decode cJ11_compress_2 14 = .ok (.if_icmp .ge 39, 3) := sorry
theorem dJ11_compress_2_17 : decode cJ11_compress_2 17 = .ok (.aload_n 0, 1) := sorry
theorem dJ11_compress_2_18 : decode cJ11_compress_2 18 = .ok (.iload_n 1, 1) := sorry
theorem dJ11_compress_2_19 : decode cJ11_compress_2 19 = .ok (.invokestatic 71, 3) := sorry
theorem dJ11_compress_2_22 : decode cJ11_compress_2 22 = .ok (.istore 6, 2) := sorry
theorem dJ11_compress_2_24 : decode cJ11_compress_2 24 = .ok (.iload 6, 2) := sorry
theorem dJ11_compress_2_26 : decode cJ11_compress_2 26 = .ok (.sipush 255, 3) := sorry
theorem dJ11_compress_2_29 : decode cJ11_compress_2 29 = .ok (.if_icmp .le 6, 3) := sorry
theorem dJ11_compress_2_32 : decode cJ11_compress_2 32 = .ok (.iload 5, 2) := sorry
theorem dJ11_compress_2_34 : decode cJ11_compress_2 34 = .ok (.ireturn, 1) := sorry
theorem dJ11_compress_2_35 : decode cJ11_compress_2 35 = .ok (.aload_n 2, 1) := sorry
theorem dJ11_compress_2_36 : decode cJ11_compress_2 36 = .ok (.iload_n 3, 1) := sorry
theorem dJ11_compress_2_37 : decode cJ11_compress_2 37 = .ok (.iload 6, 2) := sorry
theorem dJ11_compress_2_39 : decode cJ11_compress_2 39 = .ok (.i2b, 1) := sorry
theorem dJ11_compress_2_40 : decode cJ11_compress_2 40 = .ok (.bastore, 1) := sorry
theorem dJ11_compress_2_41 : decode cJ11_compress_2 41 = .ok (.iinc 1 1, 3) := sorry
theorem dJ11_compress_2_44 : decode cJ11_compress_2 44 = .ok (.iinc 3 1, 3) := sorry
theorem dJ11_compress_2_47 : decode cJ11_compress_2 47 = .ok (.iinc 5 1, 3) := sorry
theorem dJ11_compress_2_50 : decode cJ11_compress_2 50 = .ok (.goto (-40), 3) := sorry
theorem dJ11_compress_2_53 : decode cJ11_compress_2 53 = .ok (.iload 4, 2) := sorry
theorem dJ11_compress_2_55 : decode cJ11_compress_2 55 = .ok (.ireturn, 1) := sorry
abbrev cJ11_getChar : ByteArray := prog_38_method_5_code
def yJ11_getChar : MethodName := ⟨RJ11, "getChar", "([BI)C"⟩
def dkwJ11_getChar_2 : List UInt8 := [51, 17, 0, 255, 126, 178, 0, 63, 120, 128, 146, 172]
abbrev dktJ11_getChar_2 : List UInt8 := dkwJ11_getChar_2 ++ []
def dkwJ11_getChar_1 : List UInt8 := [183, 0, 56, 191, 27, 4, 120, 60, 42, 27, 132, 1, 1, 51, 17, 0, 255, 126, 178, 0, 59, 120, 42, 27]
abbrev dktJ11_getChar_1 : List UInt8 := dkwJ11_getChar_1 ++ dktJ11_getChar_2
def dkwJ11_getChar_0 : List UInt8 := [178, 0, 44, 154, 0, 25, 27, 155, 0, 11, 27, 42, 184, 0, 48, 161, 0, 13, 187, 0, 52, 89, 18, 54]
abbrev dktJ11_getChar_0 : List UInt8 := dkwJ11_getChar_0 ++ dktJ11_getChar_1
theorem dksJ11_getChar_0 : cJ11_getChar.data.toList.drop 0 = dktJ11_getChar_0 := sorry
theorem dksJ11_getChar_1 : cJ11_getChar.data.toList.drop 24 = dktJ11_getChar_1 := sorry
theorem dksJ11_getChar_2 : cJ11_getChar.data.toList.drop 48 = dktJ11_getChar_2 := sorry
theorem dJ11_getChar_0 : decode cJ11_getChar 0 = .ok (.getstatic 44, 3) := sorry
theorem dJ11_getChar_3 : decode cJ11_getChar 3 = .ok (.ifCond .ne 25, 3) := sorry
theorem dJ11_getChar_6 : decode cJ11_getChar 6 = .ok (.iload_n 1, 1) := sorry
theorem dJ11_getChar_7 : decode cJ11_getChar 7 = .ok (.ifCond .lt 11, 3) := sorry
theorem dJ11_getChar_10 : decode cJ11_getChar 10 = .ok (.iload_n 1, 1) := sorry
theorem dJ11_getChar_11 : decode cJ11_getChar 11 = .ok (.aload_n 0, 1) := sorry
theorem dJ11_getChar_12 : decode cJ11_getChar 12 = .ok (.invokestatic 48, 3) := sorry
theorem dJ11_getChar_15 : decode cJ11_getChar 15 = .ok (.if_icmp .lt 13, 3) := sorry
theorem dJ11_getChar_18 : decode cJ11_getChar 18 = .ok (.new 52, 3) := sorry
theorem dJ11_getChar_21 : decode cJ11_getChar 21 = .ok (.dup, 1) := sorry
theorem dJ11_getChar_22 : decode cJ11_getChar 22 = .ok (.ldc 54, 2) := sorry
theorem dJ11_getChar_24 : decode cJ11_getChar 24 = .ok (.invokespecial 56, 3) := sorry
theorem dJ11_getChar_27 : decode cJ11_getChar 27 = .ok (.athrow, 1) := sorry
theorem dJ11_getChar_28 : decode cJ11_getChar 28 = .ok (.iload_n 1, 1) := sorry
theorem dJ11_getChar_29 : decode cJ11_getChar 29 = .ok (.iconst 1, 1) := sorry
theorem dJ11_getChar_30 : decode cJ11_getChar 30 = .ok (.ishl, 1) := sorry
theorem dJ11_getChar_31 : decode cJ11_getChar 31 = .ok (.istore_n 1, 1) := sorry
theorem dJ11_getChar_32 : decode cJ11_getChar 32 = .ok (.aload_n 0, 1) := sorry
theorem dJ11_getChar_33 : decode cJ11_getChar 33 = .ok (.iload_n 1, 1) := sorry
theorem dJ11_getChar_34 : decode cJ11_getChar 34 = .ok (.iinc 1 1, 3) := sorry
theorem dJ11_getChar_37 : decode cJ11_getChar 37 = .ok (.baload, 1) := sorry
theorem dJ11_getChar_38 : decode cJ11_getChar 38 = .ok (.sipush 255, 3) := sorry
theorem dJ11_getChar_41 : decode cJ11_getChar 41 = .ok (.iand, 1) := sorry
theorem dJ11_getChar_42 : decode cJ11_getChar 42 = .ok (.getstatic 59, 3) := sorry
theorem dJ11_getChar_45 : decode cJ11_getChar 45 = .ok (.ishl, 1) := sorry
theorem dJ11_getChar_46 : decode cJ11_getChar 46 = .ok (.aload_n 0, 1) := sorry
theorem dJ11_getChar_47 : decode cJ11_getChar 47 = .ok (.iload_n 1, 1) := sorry
theorem dJ11_getChar_48 : decode cJ11_getChar 48 = .ok (.baload, 1) := sorry
theorem dJ11_getChar_49 : decode cJ11_getChar 49 = .ok (.sipush 255, 3) := sorry
theorem dJ11_getChar_52 : decode cJ11_getChar 52 = .ok (.iand, 1) := sorry
theorem dJ11_getChar_53 : decode cJ11_getChar 53 = .ok (.getstatic 63, 3) := sorry
theorem dJ11_getChar_56 : decode cJ11_getChar 56 = .ok (.ishl, 1) := sorry
theorem dJ11_getChar_57 : decode cJ11_getChar 57 = .ok (.ior, 1) := sorry
theorem dJ11_getChar_58 : decode cJ11_getChar 58 = .ok (.i2c, 1) := sorry
theorem dJ11_getChar_59 : decode cJ11_getChar 59 = .ok (.ireturn, 1) := sorry
abbrev cJ11_coderFromArrayLen : ByteArray := prog_38_method_15_code
def yJ11_coderFromArrayLen : MethodName := ⟨RJ11, "coderFromArrayLen", "([BI)B"⟩
def dkwJ11_coderFromArrayLen_0 : List UInt8 := [27, 42, 190, 100, 16, 31, 124, 145, 172]
abbrev dktJ11_coderFromArrayLen_0 : List UInt8 := dkwJ11_coderFromArrayLen_0 ++ []
theorem dksJ11_coderFromArrayLen_0 : cJ11_coderFromArrayLen.data.toList.drop 0 = dktJ11_coderFromArrayLen_0 := sorry
theorem dJ11_coderFromArrayLen_0 : decode cJ11_coderFromArrayLen 0 = .ok (.iload_n 1, 1) := sorry
theorem dJ11_coderFromArrayLen_1 : decode cJ11_coderFromArrayLen 1 = .ok (.aload_n 0, 1) := sorry
theorem dJ11_coderFromArrayLen_2 : decode cJ11_coderFromArrayLen 2 = .ok (.arraylength, 1) := sorry
theorem dJ11_coderFromArrayLen_3 : decode cJ11_coderFromArrayLen 3 = .ok (.isub, 1) := sorry
theorem dJ11_coderFromArrayLen_4 : decode cJ11_coderFromArrayLen 4 = .ok (.bipush 31, 2) := sorry
theorem dJ11_coderFromArrayLen_6 : decode cJ11_coderFromArrayLen 6 = .ok (.iushr, 1) := sorry
theorem dJ11_coderFromArrayLen_7 : decode cJ11_coderFromArrayLen 7 = .ok (.i2b, 1) := sorry
theorem dJ11_coderFromArrayLen_8 : decode cJ11_coderFromArrayLen 8 = .ok (.ireturn, 1) := sorry
abbrev cJ11_putCharSB : ByteArray := prog_38_method_71_code
def yJ11_putCharSB : MethodName := ⟨RJ11, "putCharSB", "([BII)V"⟩
def dkwJ11_putCharSB_0 : List UInt8 := [27, 42, 184, 0, 67, 42, 27, 28, 184, 0, 111, 177]
abbrev dktJ11_putCharSB_0 : List UInt8 := dkwJ11_putCharSB_0 ++ []
theorem dksJ11_putCharSB_0 : cJ11_putCharSB.data.toList.drop 0 = dktJ11_putCharSB_0 := sorry
theorem dJ11_putCharSB_0 : decode cJ11_putCharSB 0 = .ok (.iload_n 1, 1) := sorry
theorem dJ11_putCharSB_1 : decode cJ11_putCharSB 1 = .ok (.aload_n 0, 1) := sorry
theorem dJ11_putCharSB_2 : decode cJ11_putCharSB 2 = .ok (.invokestatic 67, 3) := sorry
theorem dJ11_putCharSB_5 : decode cJ11_putCharSB 5 = .ok (.aload_n 0, 1) := sorry
theorem dJ11_putCharSB_6 : decode cJ11_putCharSB 6 = .ok (.iload_n 1, 1) := sorry
theorem dJ11_putCharSB_7 : decode cJ11_putCharSB 7 = .ok (.iload_n 2, 1) := sorry
theorem dJ11_putCharSB_8 : decode cJ11_putCharSB 8 = .ok (.invokestatic 111, 3) := sorry
theorem dJ11_putCharSB_11 : decode cJ11_putCharSB 11 = .ok (.return_, 1) := sorry
abbrev cJ11_checkIndex : ByteArray := prog_38_method_91_code
def yJ11_checkIndex : MethodName := ⟨RJ11, "checkIndex", "(I[B)V"⟩
def dkwJ11_checkIndex_0 : List UInt8 := [26, 43, 184, 0, 48, 184, 1, 158, 177]
abbrev dktJ11_checkIndex_0 : List UInt8 := dkwJ11_checkIndex_0 ++ []
theorem dksJ11_checkIndex_0 : cJ11_checkIndex.data.toList.drop 0 = dktJ11_checkIndex_0 := sorry
theorem dJ11_checkIndex_0 : decode cJ11_checkIndex 0 = .ok (.iload_n 0, 1) := sorry
theorem dJ11_checkIndex_1 : decode cJ11_checkIndex 1 = .ok (.aload_n 1, 1) := sorry
theorem dJ11_checkIndex_2 : decode cJ11_checkIndex 2 = .ok (.invokestatic 48, 3) := sorry
theorem dJ11_checkIndex_5 : decode cJ11_checkIndex 5 = .ok (.invokestatic 414, 3) := sorry
theorem dJ11_checkIndex_8 : decode cJ11_checkIndex 8 = .ok (.return_, 1) := sorry
abbrev cJ11_hashCode : ByteArray := prog_38_method_39_code
def yJ11_hashCode : MethodName := ⟨RJ11, "hashCode", "([B)I"⟩
def dkwJ11_hashCode_2 : List UInt8 := [3, 167, 0, 22, 42, 3, 184, 0, 71, 167, 0, 14, 42, 3, 42, 190, 4, 122, 3, 8, 184, 0, 220, 172]
abbrev dktJ11_hashCode_2 : List UInt8 := dkwJ11_hashCode_2 ++ []
def dkwJ11_hashCode_1 : List UInt8 := [171, 0, 0, 0, 0, 38, 0, 0, 0, 2, 0, 0, 0, 0, 0, 0, 0, 26, 0, 0, 0, 2, 0, 0, 0, 30]
abbrev dktJ11_hashCode_1 : List UInt8 := dkwJ11_hashCode_1 ++ dktJ11_hashCode_2
def dkwJ11_hashCode_0 : List UInt8 := [42, 190]
abbrev dktJ11_hashCode_0 : List UInt8 := dkwJ11_hashCode_0 ++ dktJ11_hashCode_1
theorem dksJ11_hashCode_0 : cJ11_hashCode.data.toList.drop 0 = dktJ11_hashCode_0 := sorry
theorem dksJ11_hashCode_1 : cJ11_hashCode.data.toList.drop 2 = dktJ11_hashCode_1 := sorry
theorem dksJ11_hashCode_2 : cJ11_hashCode.data.toList.drop 28 = dktJ11_hashCode_2 := sorry
theorem dJ11_hashCode_0 : decode cJ11_hashCode 0 = .ok (.aload_n 0, 1) := sorry
theorem dJ11_hashCode_1 : decode cJ11_hashCode 1 = .ok (.arraylength, 1) := sorry
theorem dJ11_hashCode_2 : decode cJ11_hashCode 2 = .ok (.lookupswitch 38 #[(0, 26), (2, 30)], 26) := sorry
theorem dJ11_hashCode_28 : decode cJ11_hashCode 28 = .ok (.iconst 0, 1) := sorry
theorem dJ11_hashCode_29 : decode cJ11_hashCode 29 = .ok (.goto 22, 3) := sorry
theorem dJ11_hashCode_32 : decode cJ11_hashCode 32 = .ok (.aload_n 0, 1) := sorry
theorem dJ11_hashCode_33 : decode cJ11_hashCode 33 = .ok (.iconst 0, 1) := sorry
theorem dJ11_hashCode_34 : decode cJ11_hashCode 34 = .ok (.invokestatic 71, 3) := sorry
theorem dJ11_hashCode_37 : decode cJ11_hashCode 37 = .ok (.goto 14, 3) := sorry
theorem dJ11_hashCode_40 : decode cJ11_hashCode 40 = .ok (.aload_n 0, 1) := sorry
theorem dJ11_hashCode_41 : decode cJ11_hashCode 41 = .ok (.iconst 0, 1) := sorry
theorem dJ11_hashCode_42 : decode cJ11_hashCode 42 = .ok (.aload_n 0, 1) := sorry
theorem dJ11_hashCode_43 : decode cJ11_hashCode 43 = .ok (.arraylength, 1) := sorry
theorem dJ11_hashCode_44 : decode cJ11_hashCode 44 = .ok (.iconst 1, 1) := sorry
theorem dJ11_hashCode_45 : decode cJ11_hashCode 45 = .ok (.ishr, 1) := sorry
theorem dJ11_hashCode_46 : decode cJ11_hashCode 46 = .ok (.iconst 0, 1) := sorry
theorem dJ11_hashCode_47 : decode cJ11_hashCode 47 = .ok (.iconst 5, 1) := sorry
theorem dJ11_hashCode_48 : decode cJ11_hashCode 48 = .ok (.invokestatic 220, 3) := sorry
theorem dJ11_hashCode_51 : decode cJ11_hashCode 51 = .ok (.ireturn, 1) := sorry
abbrev cJ11_fillNull : ByteArray := prog_38_method_70_code
def yJ11_fillNull : MethodName := ⟨RJ11, "fillNull", "([BII)V"⟩
def dkwJ11_fillNull_0 : List UInt8 := [42, 27, 4, 120, 28, 4, 120, 3, 184, 1, 124, 177]
abbrev dktJ11_fillNull_0 : List UInt8 := dkwJ11_fillNull_0 ++ []
theorem dksJ11_fillNull_0 : cJ11_fillNull.data.toList.drop 0 = dktJ11_fillNull_0 := sorry
theorem dJ11_fillNull_0 : decode cJ11_fillNull 0 = .ok (.aload_n 0, 1) := sorry
theorem dJ11_fillNull_1 : decode cJ11_fillNull 1 = .ok (.iload_n 1, 1) := sorry
theorem dJ11_fillNull_2 : decode cJ11_fillNull 2 = .ok (.iconst 1, 1) := sorry
theorem dJ11_fillNull_3 : decode cJ11_fillNull 3 = .ok (.ishl, 1) := sorry
theorem dJ11_fillNull_4 : decode cJ11_fillNull 4 = .ok (.iload_n 2, 1) := sorry
theorem dJ11_fillNull_5 : decode cJ11_fillNull 5 = .ok (.iconst 1, 1) := sorry
theorem dJ11_fillNull_6 : decode cJ11_fillNull 6 = .ok (.ishl, 1) := sorry
theorem dJ11_fillNull_7 : decode cJ11_fillNull 7 = .ok (.iconst 0, 1) := sorry
theorem dJ11_fillNull_8 : decode cJ11_fillNull 8 = .ok (.invokestatic 380, 3) := sorry
theorem dJ11_fillNull_11 : decode cJ11_fillNull 11 = .ok (.return_, 1) := sorry
abbrev cJ11_charAt : ByteArray := prog_38_method_83_code
def yJ11_charAt : MethodName := ⟨RJ11, "charAt", "([BI)C"⟩
def dkwJ11_charAt_0 : List UInt8 := [27, 42, 184, 0, 67, 42, 27, 184, 0, 71, 172]
abbrev dktJ11_charAt_0 : List UInt8 := dkwJ11_charAt_0 ++ []
theorem dksJ11_charAt_0 : cJ11_charAt.data.toList.drop 0 = dktJ11_charAt_0 := sorry
theorem dJ11_charAt_0 : decode cJ11_charAt 0 = .ok (.iload_n 1, 1) := sorry
theorem dJ11_charAt_1 : decode cJ11_charAt 1 = .ok (.aload_n 0, 1) := sorry
theorem dJ11_charAt_2 : decode cJ11_charAt 2 = .ok (.invokestatic 67, 3) := sorry
theorem dJ11_charAt_5 : decode cJ11_charAt 5 = .ok (.aload_n 0, 1) := sorry
theorem dJ11_charAt_6 : decode cJ11_charAt 6 = .ok (.iload_n 1, 1) := sorry
theorem dJ11_charAt_7 : decode cJ11_charAt 7 = .ok (.invokestatic 71, 3) := sorry
theorem dJ11_charAt_10 : decode cJ11_charAt 10 = .ok (.ireturn, 1) := sorry
theorem q97 : (Jvm.Cond.initialized "java/lang/StringUTF16") ∈ lw_all := sorry
theorem q238 : (Jvm.Cond.static ({ cls := "java/lang/StringUTF16", name := "newBytesFor", desc := "(I)[B" } : Jvm.MethodName)) ∈ lw_all := sorry
theorem q239 : (Jvm.Cond.code ({ cls := "java/lang/StringUTF16", name := "newBytesFor", desc := "(I)[B" } : Jvm.MethodName) prog_38_method_2_code (1 : Nat) (Option.some (Jvm.ClassFile.FieldType.array Jvm.ClassFile.FieldType.byte))) ∈ lw_all := sorry
theorem q240 : (Jvm.Cond.methodLink "java/lang/StringUTF16" (11 : Nat) ({ cls := "java/lang/StringUTF16", name := "newBytesLength", desc := "(I)I" } : Jvm.MethodName)) ∈ lw_all := sorry
theorem q241 : (Jvm.Cond.static ({ cls := "java/lang/StringUTF16", name := "newBytesLength", desc := "(I)I" } : Jvm.MethodName)) ∈ lw_all := sorry
theorem q242 : (Jvm.Cond.code ({ cls := "java/lang/StringUTF16", name := "newBytesLength", desc := "(I)I" } : Jvm.MethodName) prog_38_method_3_code (1 : Nat) (Option.some Jvm.ClassFile.FieldType.int)) ∈ lw_all := sorry
theorem q243 : (Jvm.Cond.constant "java/lang/StringUTF16" (20 : Nat) (1073741823 : Int32)) ∈ lw_all := sorry
theorem q311 : (Jvm.Cond.static ({ cls := "java/lang/StringUTF16", name := "putCharsAt", desc := "([BICCCC)I" } : Jvm.MethodName)) ∈ lw_all := sorry
theorem q312 : (Jvm.Cond.code ({ cls := "java/lang/StringUTF16", name := "putCharsAt", desc := "([BICCCC)I" } : Jvm.MethodName) prog_38_method_81_code (7 : Nat) (Option.some Jvm.ClassFile.FieldType.int)) ∈ lw_all := sorry
theorem q313 : (Jvm.Cond.methodLink "java/lang/StringUTF16" (96 : Nat) ({ cls := "java/lang/StringUTF16", name := "checkBoundsBeginEnd", desc := "(II[B)V" } : Jvm.MethodName)) ∈ lw_all := sorry
theorem q314 : (Jvm.Cond.static ({ cls := "java/lang/StringUTF16", name := "checkBoundsBeginEnd", desc := "(II[B)V" } : Jvm.MethodName)) ∈ lw_all := sorry
theorem q315 : (Jvm.Cond.code ({ cls := "java/lang/StringUTF16", name := "checkBoundsBeginEnd", desc := "(II[B)V" } : Jvm.MethodName) prog_38_method_93_code (3 : Nat) (Option.none : Option Jvm.ClassFile.FieldType)) ∈ lw_all := sorry
theorem q316 : (Jvm.Cond.methodLink "java/lang/StringUTF16" (48 : Nat) ({ cls := "java/lang/StringUTF16", name := "length", desc := "([B)I" } : Jvm.MethodName)) ∈ lw_all := sorry
theorem q317 : (Jvm.Cond.static ({ cls := "java/lang/StringUTF16", name := "length", desc := "([B)I" } : Jvm.MethodName)) ∈ lw_all := sorry
theorem q318 : (Jvm.Cond.code ({ cls := "java/lang/StringUTF16", name := "length", desc := "([B)I" } : Jvm.MethodName) prog_38_method_6_code (1 : Nat) (Option.some Jvm.ClassFile.FieldType.int)) ∈ lw_all := sorry
theorem q319 : (Jvm.Cond.methodLink "java/lang/StringUTF16" (241 : Nat) ({ cls := "java/lang/String", name := "checkBoundsBeginEnd", desc := "(III)V" } : Jvm.MethodName)) ∈ lw_all := sorry
theorem q327 : (Jvm.Cond.methodLink "java/lang/StringUTF16" (111 : Nat) ({ cls := "java/lang/StringUTF16", name := "putChar", desc := "([BII)V" } : Jvm.MethodName)) ∈ lw_all := sorry
theorem q328 : (Jvm.Cond.static ({ cls := "java/lang/StringUTF16", name := "putChar", desc := "([BII)V" } : Jvm.MethodName)) ∈ lw_all := sorry
theorem q329 : (Jvm.Cond.code ({ cls := "java/lang/StringUTF16", name := "putChar", desc := "([BII)V" } : Jvm.MethodName) prog_38_method_4_code (3 : Nat) (Option.none : Option Jvm.ClassFile.FieldType)) ∈ lw_all := sorry
theorem q330 : (Jvm.Cond.fieldLink "java/lang/StringUTF16" (44 : Nat) "java/lang/StringUTF16" "$assertionsDisabled" "Z") ∈ lw_all := sorry
theorem q331 : (Jvm.Cond.laysStatic "java/lang/StringUTF16" "$assertionsDisabled" "Z") ∈ lw_tbl := sorry
theorem q332 : (Jvm.Cond.fieldLink "java/lang/StringUTF16" (59 : Nat) "java/lang/StringUTF16" "HI_BYTE_SHIFT" "I") ∈ lw_all := sorry
theorem q333 : (Jvm.Cond.laysStatic "java/lang/StringUTF16" "HI_BYTE_SHIFT" "I") ∈ lw_tbl := sorry
theorem q334 : (Jvm.Cond.fieldLink "java/lang/StringUTF16" (63 : Nat) "java/lang/StringUTF16" "LO_BYTE_SHIFT" "I") ∈ lw_all := sorry
theorem q335 : (Jvm.Cond.laysStatic "java/lang/StringUTF16" "LO_BYTE_SHIFT" "I") ∈ lw_tbl := sorry
theorem q362 : (Jvm.Cond.static ({ cls := "java/lang/StringUTF16", name := "inflate", desc := "([BI[BII)V" } : Jvm.MethodName)) ∈ lw_all := sorry
theorem q363 : (Jvm.Cond.code ({ cls := "java/lang/StringUTF16", name := "inflate", desc := "([BI[BII)V" } : Jvm.MethodName) prog_38_method_86_code (6 : Nat) (Option.none : Option Jvm.ClassFile.FieldType)) ∈ lw_all := sorry
theorem q364 : (Jvm.Cond.methodLink "java/lang/StringUTF16" (173 : Nat) ({ cls := "java/lang/StringUTF16", name := "checkBoundsOffCount", desc := "(II[B)V" } : Jvm.MethodName)) ∈ lw_all := sorry
theorem q365 : (Jvm.Cond.static ({ cls := "java/lang/StringUTF16", name := "checkBoundsOffCount", desc := "(II[B)V" } : Jvm.MethodName)) ∈ lw_all := sorry
theorem q366 : (Jvm.Cond.code ({ cls := "java/lang/StringUTF16", name := "checkBoundsOffCount", desc := "(II[B)V" } : Jvm.MethodName) prog_38_method_94_code (3 : Nat) (Option.none : Option Jvm.ClassFile.FieldType)) ∈ lw_all := sorry
theorem q367 : (Jvm.Cond.methodLink "java/lang/StringUTF16" (419 : Nat) ({ cls := "java/lang/String", name := "checkBoundsOffCount", desc := "(III)I" } : Jvm.MethodName)) ∈ lw_all := sorry
theorem q397 : (Jvm.Cond.static ({ cls := "java/lang/StringUTF16", name := "getChars", desc := "(III[B)I" } : Jvm.MethodName)) ∈ lw_all := sorry
theorem q398 : (Jvm.Cond.code ({ cls := "java/lang/StringUTF16", name := "getChars", desc := "(III[B)I" } : Jvm.MethodName) prog_38_method_77_code (5 : Nat) (Option.some Jvm.ClassFile.FieldType.int)) ∈ lw_all := sorry
theorem q399 : (Jvm.Cond.methodLink "java/lang/StringUTF16" (393 : Nat) ({ cls := "java/lang/StringUTF16", name := "getChars", desc := "(II[B)I" } : Jvm.MethodName)) ∈ lw_all := sorry
theorem q400 : (Jvm.Cond.static ({ cls := "java/lang/StringUTF16", name := "getChars", desc := "(II[B)I" } : Jvm.MethodName)) ∈ lw_all := sorry
theorem q401 : (Jvm.Cond.code ({ cls := "java/lang/StringUTF16", name := "getChars", desc := "(II[B)I" } : Jvm.MethodName) prog_38_method_89_code (7 : Nat) (Option.some Jvm.ClassFile.FieldType.int)) ∈ lw_all := sorry
theorem q402 : (Jvm.Cond.fieldLink "java/lang/StringUTF16" (403 : Nat) "java/lang/Integer" "DigitOnes" "[B") ∈ lw_all := sorry
theorem q403 : (Jvm.Cond.fieldLink "java/lang/StringUTF16" (407 : Nat) "java/lang/Integer" "DigitTens" "[B") ∈ lw_all := sorry
theorem q473 : (Jvm.Cond.static ({ cls := "java/lang/StringUTF16", name := "compress", desc := "([BII)[B" } : Jvm.MethodName)) ∈ lw_all := sorry
theorem q474 : (Jvm.Cond.code ({ cls := "java/lang/StringUTF16", name := "compress", desc := "([BII)[B" } : Jvm.MethodName) prog_38_method_17_code (6 : Nat) (Option.some (Jvm.ClassFile.FieldType.array Jvm.ClassFile.FieldType.byte))) ∈ lw_all := sorry
theorem q475 : (Jvm.Cond.methodLink "java/lang/StringUTF16" (123 : Nat) ({ cls := "java/lang/StringUTF16", name := "compress", desc := "([BI[BII)I" } : Jvm.MethodName)) ∈ lw_all := sorry
theorem q476 : (Jvm.Cond.static ({ cls := "java/lang/StringUTF16", name := "compress", desc := "([BI[BII)I" } : Jvm.MethodName)) ∈ lw_all := sorry
theorem q477 : (Jvm.Cond.code ({ cls := "java/lang/StringUTF16", name := "compress", desc := "([BI[BII)I" } : Jvm.MethodName) prog_38_method_22_code (7 : Nat) (Option.some Jvm.ClassFile.FieldType.int)) ∈ lw_all := sorry
theorem q478 : (Jvm.Cond.methodLink "java/lang/StringUTF16" (71 : Nat) ({ cls := "java/lang/StringUTF16", name := "getChar", desc := "([BI)C" } : Jvm.MethodName)) ∈ lw_all := sorry
theorem q479 : (Jvm.Cond.static ({ cls := "java/lang/StringUTF16", name := "getChar", desc := "([BI)C" } : Jvm.MethodName)) ∈ lw_all := sorry
theorem q480 : (Jvm.Cond.code ({ cls := "java/lang/StringUTF16", name := "getChar", desc := "([BI)C" } : Jvm.MethodName) prog_38_method_5_code (2 : Nat) (Option.some Jvm.ClassFile.FieldType.char)) ∈ lw_all := sorry
theorem q481 : (Jvm.Cond.methodLink "java/lang/StringUTF16" (126 : Nat) ({ cls := "java/util/Arrays", name := "copyOfRange", desc := "([BII)[B" } : Jvm.MethodName)) ∈ lw_all := sorry
theorem q483 : (Jvm.Cond.static ({ cls := "java/lang/StringUTF16", name := "coderFromArrayLen", desc := "([BI)B" } : Jvm.MethodName)) ∈ lw_all := sorry
theorem q484 : (Jvm.Cond.code ({ cls := "java/lang/StringUTF16", name := "coderFromArrayLen", desc := "([BI)B" } : Jvm.MethodName) prog_38_method_15_code (2 : Nat) (Option.some Jvm.ClassFile.FieldType.byte)) ∈ lw_all := sorry
theorem q1083 : (Jvm.Cond.static ({ cls := "java/lang/StringUTF16", name := "putCharSB", desc := "([BII)V" } : Jvm.MethodName)) ∈ lw_all := sorry
theorem q1084 : (Jvm.Cond.code ({ cls := "java/lang/StringUTF16", name := "putCharSB", desc := "([BII)V" } : Jvm.MethodName) prog_38_method_71_code (3 : Nat) (Option.none : Option Jvm.ClassFile.FieldType)) ∈ lw_all := sorry
theorem q1085 : (Jvm.Cond.methodLink "java/lang/StringUTF16" (67 : Nat) ({ cls := "java/lang/StringUTF16", name := "checkIndex", desc := "(I[B)V" } : Jvm.MethodName)) ∈ lw_all := sorry
theorem q1086 : (Jvm.Cond.static ({ cls := "java/lang/StringUTF16", name := "checkIndex", desc := "(I[B)V" } : Jvm.MethodName)) ∈ lw_all := sorry
theorem q1087 : (Jvm.Cond.code ({ cls := "java/lang/StringUTF16", name := "checkIndex", desc := "(I[B)V" } : Jvm.MethodName) prog_38_method_91_code (2 : Nat) (Option.none : Option Jvm.ClassFile.FieldType)) ∈ lw_all := sorry
theorem q1088 : (Jvm.Cond.methodLink "java/lang/StringUTF16" (414 : Nat) ({ cls := "java/lang/String", name := "checkIndex", desc := "(II)V" } : Jvm.MethodName)) ∈ lw_all := sorry
theorem q1149 : (Jvm.Cond.static ({ cls := "java/lang/StringUTF16", name := "hashCode", desc := "([B)I" } : Jvm.MethodName)) ∈ lw_all := sorry
theorem q1150 : (Jvm.Cond.code ({ cls := "java/lang/StringUTF16", name := "hashCode", desc := "([B)I" } : Jvm.MethodName) prog_38_method_39_code (1 : Nat) (Option.some Jvm.ClassFile.FieldType.int)) ∈ lw_all := sorry
theorem q1151 : (Jvm.Cond.methodLink "java/lang/StringUTF16" (220 : Nat) ({ cls := "jdk/internal/util/ArraysSupport", name := "vectorizedHashCode", desc := "(Ljava/lang/Object;IIII)I" } : Jvm.MethodName)) ∈ lw_all := sorry
theorem q2007 : (Jvm.Cond.static ({ cls := "java/lang/StringUTF16", name := "fillNull", desc := "([BII)V" } : Jvm.MethodName)) ∈ lw_all := sorry
theorem q2008 : (Jvm.Cond.code ({ cls := "java/lang/StringUTF16", name := "fillNull", desc := "([BII)V" } : Jvm.MethodName) prog_38_method_70_code (3 : Nat) (Option.none : Option Jvm.ClassFile.FieldType)) ∈ lw_all := sorry
theorem q2009 : (Jvm.Cond.methodLink "java/lang/StringUTF16" (380 : Nat) ({ cls := "java/util/Arrays", name := "fill", desc := "([BIIB)V" } : Jvm.MethodName)) ∈ lw_all := sorry
theorem q2199 : (Jvm.Cond.static ({ cls := "java/lang/StringUTF16", name := "charAt", desc := "([BI)C" } : Jvm.MethodName)) ∈ lw_all := sorry
theorem q2200 : (Jvm.Cond.code ({ cls := "java/lang/StringUTF16", name := "charAt", desc := "([BI)C" } : Jvm.MethodName) prog_38_method_83_code (2 : Nat) (Option.some Jvm.ClassFile.FieldType.char)) ∈ lw_all := sorry
/-! jdk/internal/util/ArraysSupport -/
set_option maxRecDepth 100000
def RJ12 : String := "jdk/internal/util/ArraysSupport"
abbrev cJ12_newLength : ByteArray := prog_60_method_27_code
def yJ12_newLength : MethodName := ⟨RJ12, "newLength", "(III)I"⟩
def dkwJ12_newLength_1 : List UInt8 := [184, 0, 201, 172]
abbrev dktJ12_newLength_1 : List UInt8 := dkwJ12_newLength_1 ++ []
def dkwJ12_newLength_0 : List UInt8 := [26, 27, 28, 184, 0, 194, 96, 62, 3, 29, 162, 0, 11, 29, 18, 200, 163, 0, 5, 29, 172, 26, 27]
abbrev dktJ12_newLength_0 : List UInt8 := dkwJ12_newLength_0 ++ dktJ12_newLength_1
theorem dksJ12_newLength_0 : cJ12_newLength.data.toList.drop 0 = dktJ12_newLength_0 := sorry
theorem dksJ12_newLength_1 : cJ12_newLength.data.toList.drop 23 = dktJ12_newLength_1 := sorry
theorem dJ12_newLength_0 : decode cJ12_newLength 0 = .ok (.iload_n 0, 1) := sorry
theorem dJ12_newLength_1 : decode cJ12_newLength 1 = .ok (.iload_n 1, 1) := sorry
theorem dJ12_newLength_2 : decode cJ12_newLength 2 = .ok (.iload_n 2, 1) := sorry
theorem dJ12_newLength_3 : decode cJ12_newLength 3 = .ok (.invokestatic 194, 3) := sorry
theorem dJ12_newLength_6 : decode cJ12_newLength 6 = .ok (.iadd, 1) := sorry
theorem dJ12_newLength_7 : decode cJ12_newLength 7 = .ok (.istore_n 3, 1) := sorry
theorem dJ12_newLength_8 : decode cJ12_newLength 8 = .ok (.iconst 0, 1) := sorry
theorem dJ12_newLength_9 : decode cJ12_newLength 9 = .ok (.iload_n 3, 1) := sorry
theorem dJ12_newLength_10 : decode cJ12_newLength 10 = .ok (.if_icmp .ge 11, 3) := sorry
theorem dJ12_newLength_13 : decode cJ12_newLength 13 = .ok (.iload_n 3, 1) := sorry
theorem dJ12_newLength_14 : decode cJ12_newLength 14 = .ok (.ldc 200, 2) := sorry
theorem dJ12_newLength_16 : decode cJ12_newLength 16 = .ok (.if_icmp .gt 5, 3) := sorry
theorem dJ12_newLength_19 : decode cJ12_newLength 19 = .ok (.iload_n 3, 1) := sorry
theorem dJ12_newLength_20 : decode cJ12_newLength 20 = .ok (.ireturn, 1) := sorry
theorem dJ12_newLength_21 : decode cJ12_newLength 21 = .ok (.iload_n 0, 1) := sorry
theorem dJ12_newLength_22 : decode cJ12_newLength 22 = .ok (.iload_n 1, 1) := sorry
theorem dJ12_newLength_23 : decode cJ12_newLength 23 = .ok (.invokestatic 201, 3) := sorry
theorem dJ12_newLength_26 : decode cJ12_newLength 26 = .ok (.ireturn, 1) := sorry
abbrev cJ12_hugeLength : ByteArray := prog_60_method_28_code
def yJ12_hugeLength : MethodName := ⟨RJ12, "hugeLength", "(II)I"⟩
def dkwJ12_hugeLength_2 : List UInt8 := [191, 28, 18, 200, 163, 0, 6, 18, 200, 172, 28, 172]
abbrev dktJ12_hugeLength_2 : List UInt8 := dkwJ12_hugeLength_2 ++ []
def dkwJ12_hugeLength_1 : List UInt8 := [26, 182, 0, 98, 18, 208, 182, 0, 94, 27, 182, 0, 98, 18, 210, 182, 0, 94, 182, 0, 101, 183, 0, 212]
abbrev dktJ12_hugeLength_1 : List UInt8 := dkwJ12_hugeLength_1 ++ dktJ12_hugeLength_2
def dkwJ12_hugeLength_0 : List UInt8 := [26, 27, 96, 61, 28, 156, 0, 44, 187, 0, 204, 89, 187, 0, 89, 89, 183, 0, 91, 18, 206, 182, 0, 94]
abbrev dktJ12_hugeLength_0 : List UInt8 := dkwJ12_hugeLength_0 ++ dktJ12_hugeLength_1
theorem dksJ12_hugeLength_0 : cJ12_hugeLength.data.toList.drop 0 = dktJ12_hugeLength_0 := sorry
theorem dksJ12_hugeLength_1 : cJ12_hugeLength.data.toList.drop 24 = dktJ12_hugeLength_1 := sorry
theorem dksJ12_hugeLength_2 : cJ12_hugeLength.data.toList.drop 48 = dktJ12_hugeLength_2 := sorry
theorem dJ12_hugeLength_0 : decode cJ12_hugeLength 0 = .ok (.iload_n 0, 1) := sorry
theorem dJ12_hugeLength_1 : decode cJ12_hugeLength 1 = .ok (.iload_n 1, 1) := sorry
theorem dJ12_hugeLength_2 : decode cJ12_hugeLength 2 = .ok (.iadd, 1) := sorry
theorem dJ12_hugeLength_3 : decode cJ12_hugeLength 3 = .ok (.istore_n 2, 1) := sorry
theorem dJ12_hugeLength_4 : decode cJ12_hugeLength 4 = .ok (.iload_n 2, 1) := sorry
theorem dJ12_hugeLength_5 : decode cJ12_hugeLength 5 = .ok (.ifCond .ge 44, 3) := sorry
theorem dJ12_hugeLength_8 : decode cJ12_hugeLength 8 = .ok (.new 204, 3) := sorry
theorem dJ12_hugeLength_11 : decode cJ12_hugeLength 11 = .ok (.dup, 1) := sorry
theorem dJ12_hugeLength_12 : decode cJ12_hugeLength 12 = .ok (.new 89, 3) := sorry
theorem dJ12_hugeLength_15 : decode cJ12_hugeLength 15 = .ok (.dup, 1) := sorry
theorem dJ12_hugeLength_16 : decode cJ12_hugeLength 16 = .ok (.invokespecial 91, 3) := sorry
theorem dJ12_hugeLength_19 : decode cJ12_hugeLength 19 = .ok (.ldc 206, 2) := sorry
theorem dJ12_hugeLength_21 : decode cJ12_hugeLength 21 = .ok (.invokevirtual 94, 3) := sorry
theorem dJ12_hugeLength_24 : decode cJ12_hugeLength 24 = .ok (.iload_n 0, 1) := sorry
theorem dJ12_hugeLength_25 : decode cJ12_hugeLength 25 = .ok (.invokevirtual 98, 3) := sorry
theorem dJ12_hugeLength_28 : decode cJ12_hugeLength 28 = .ok (.ldc 208, 2) := sorry
theorem dJ12_hugeLength_30 : decode cJ12_hugeLength 30 = .ok (.invokevirtual 94, 3) := sorry
theorem dJ12_hugeLength_33 : decode cJ12_hugeLength 33 = .ok (.iload_n 1, 1) := sorry
theorem dJ12_hugeLength_34 : decode cJ12_hugeLength 34 = .ok (.invokevirtual 98, 3) := sorry
theorem dJ12_hugeLength_37 : decode cJ12_hugeLength 37 = .ok (.ldc 210, 2) := sorry
theorem dJ12_hugeLength_39 : decode cJ12_hugeLength 39 = .ok (.invokevirtual 94, 3) := sorry
theorem dJ12_hugeLength_42 : decode cJ12_hugeLength 42 = .ok (.invokevirtual 101, 3) := sorry
theorem dJ12_hugeLength_45 : decode cJ12_hugeLength 45 = .ok (.invokespecial 212, 3) := sorry
theorem dJ12_hugeLength_48 : decode cJ12_hugeLength 48 = .ok (.athrow, 1) := sorry
theorem dJ12_hugeLength_49 : decode cJ12_hugeLength 49 = .ok (.iload_n 2, 1) := sorry
theorem dJ12_hugeLength_50 : decode cJ12_hugeLength 50 = .ok (.ldc 200, 2) := sorry
theorem dJ12_hugeLength_52 : decode cJ12_hugeLength 52 = .ok (.if_icmp .gt 6, 3) := sorry
theorem dJ12_hugeLength_55 : decode cJ12_hugeLength 55 = .ok (.ldc 200, 2) := sorry
theorem dJ12_hugeLength_57 : decode cJ12_hugeLength 57 = .ok (.ireturn, 1) := sorry
theorem dJ12_hugeLength_58 : decode cJ12_hugeLength 58 = .ok (.iload_n 2, 1) := sorry
theorem dJ12_hugeLength_59 : decode cJ12_hugeLength 59 = .ok (.ireturn, 1) := sorry
abbrev cJ12_vectorizedHashCode : ByteArray := prog_60_method_4_code
def yJ12_vectorizedHashCode : MethodName := ⟨RJ12, "vectorizedHashCode", "(Ljava/lang/Object;IIII)I"⟩
def dkwJ12_vectorizedHashCode_6 : List UInt8 := [183, 0, 91, 18, 92, 182, 0, 94, 21, 4, 182, 0, 98, 182, 0, 101, 183, 0, 105, 191, 172]
abbrev dktJ12_vectorizedHashCode_6 : List UInt8 := dkwJ12_vectorizedHashCode_6 ++ []
def dkwJ12_vectorizedHashCode_5 : List UInt8 := [167, 0, 44, 29, 42, 192, 0, 82, 27, 28, 184, 0, 84, 167, 0, 31, 187, 0, 87, 89, 187, 0, 89, 89]
abbrev dktJ12_vectorizedHashCode_5 : List UInt8 := dkwJ12_vectorizedHashCode_5 ++ dktJ12_vectorizedHashCode_6
def dkwJ12_vectorizedHashCode_4 : List UInt8 := [29, 42, 192, 0, 60, 27, 28, 184, 0, 75, 167, 0, 57, 29, 42, 192, 0, 77, 27, 28, 184, 0, 79]
abbrev dktJ12_vectorizedHashCode_4 : List UInt8 := dkwJ12_vectorizedHashCode_4 ++ dktJ12_vectorizedHashCode_5
def dkwJ12_vectorizedHashCode_3 : List UInt8 := [192, 0, 60, 27, 28, 184, 0, 66, 167, 0, 83, 29, 42, 192, 0, 69, 27, 28, 184, 0, 71, 167, 0, 70]
abbrev dktJ12_vectorizedHashCode_3 : List UInt8 := dkwJ12_vectorizedHashCode_3 ++ dktJ12_vectorizedHashCode_4
def dkwJ12_vectorizedHashCode_2 : List UInt8 := [29, 42, 192, 0, 60, 27, 28, 184, 0, 62, 167, 0, 103, 42, 193, 0, 60, 153, 0, 16, 29, 42]
abbrev dktJ12_vectorizedHashCode_2 : List UInt8 := dkwJ12_vectorizedHashCode_2 ++ dktJ12_vectorizedHashCode_3
def dkwJ12_vectorizedHashCode_1 : List UInt8 := [170, 0, 0, 0, 0, 127, 0, 0, 0, 4, 0, 0, 0, 10, 0, 0, 0, 42, 0, 0, 0, 55, 0, 0, 0, 127, 0, 0, 0, 127, 0, 0, 0, 88, 0, 0, 0, 101, 0, 0, 0, 114]
abbrev dktJ12_vectorizedHashCode_1 : List UInt8 := dkwJ12_vectorizedHashCode_1 ++ dktJ12_vectorizedHashCode_2
def dkwJ12_vectorizedHashCode_0 : List UInt8 := [21, 4]
abbrev dktJ12_vectorizedHashCode_0 : List UInt8 := dkwJ12_vectorizedHashCode_0 ++ dktJ12_vectorizedHashCode_1
theorem dksJ12_vectorizedHashCode_0 : cJ12_vectorizedHashCode.data.toList.drop 0 = dktJ12_vectorizedHashCode_0 := sorry
theorem dksJ12_vectorizedHashCode_1 : cJ12_vectorizedHashCode.data.toList.drop 2 = dktJ12_vectorizedHashCode_1 := sorry
theorem dksJ12_vectorizedHashCode_2 : cJ12_vectorizedHashCode.data.toList.drop 44 = dktJ12_vectorizedHashCode_2 := sorry
theorem dksJ12_vectorizedHashCode_3 : cJ12_vectorizedHashCode.data.toList.drop 66 = dktJ12_vectorizedHashCode_3 := sorry
theorem dksJ12_vectorizedHashCode_4 : cJ12_vectorizedHashCode.data.toList.drop 90 = dktJ12_vectorizedHashCode_4 := sorry
theorem dksJ12_vectorizedHashCode_5 : cJ12_vectorizedHashCode.data.toList.drop 113 = dktJ12_vectorizedHashCode_5 := sorry
theorem dksJ12_vectorizedHashCode_6 : cJ12_vectorizedHashCode.data.toList.drop 137 = dktJ12_vectorizedHashCode_6 := sorry
theorem dJ12_vectorizedHashCode_0 : decode cJ12_vectorizedHashCode 0 = .ok (.iload 4, 2) := sorry
theorem dJ12_vectorizedHashCode_2 : decode cJ12_vectorizedHashCode 2 = .ok (.tableswitch 127 4 10 #[42, 55, 127, 127, 88, 101, 114], 42) := sorry
theorem dJ12_vectorizedHashCode_44 : decode cJ12_vectorizedHashCode 44 = .ok (.iload_n 3, 1) := sorry
theorem dJ12_vectorizedHashCode_45 : decode cJ12_vectorizedHashCode 45 = .ok (.aload_n 0, 1) := sorry
theorem dJ12_vectorizedHashCode_46 : decode cJ12_vectorizedHashCode 46 = .ok (.checkcast 60, 3) := sorry
theorem dJ12_vectorizedHashCode_49 : decode cJ12_vectorizedHashCode 49 = .ok (.iload_n 1, 1) := sorry
theorem dJ12_vectorizedHashCode_50 : decode cJ12_vectorizedHashCode 50 = .ok (.iload_n 2, 1) := sorry
theorem dJ12_vectorizedHashCode_51 : decode cJ12_vectorizedHashCode 51 = .ok (.invokestatic 62, 3) := sorry
theorem dJ12_vectorizedHashCode_54 : decode cJ12_vectorizedHashCode 54 = .ok (.goto 103, 3) := sorry
theorem dJ12_vectorizedHashCode_57 : decode cJ12_vectorizedHashCode 57 = .ok (.aload_n 0, 1) := sorry
theorem dJ12_vectorizedHashCode_58 : decode cJ12_vectorizedHashCode 58 = .ok (.instanceof 60, 3) := sorry
theorem dJ12_vectorizedHashCode_61 : decode cJ12_vectorizedHashCode 61 = .ok (.ifCond .eq 16, 3) := sorry
theorem dJ12_vectorizedHashCode_64 : decode cJ12_vectorizedHashCode 64 = .ok (.iload_n 3, 1) := sorry
theorem dJ12_vectorizedHashCode_65 : decode cJ12_vectorizedHashCode 65 = .ok (.aload_n 0, 1) := sorry
theorem dJ12_vectorizedHashCode_66 : decode cJ12_vectorizedHashCode 66 = .ok (.checkcast 60, 3) := sorry
theorem dJ12_vectorizedHashCode_69 : decode cJ12_vectorizedHashCode 69 = .ok (.iload_n 1, 1) := sorry
theorem dJ12_vectorizedHashCode_70 : decode cJ12_vectorizedHashCode 70 = .ok (.iload_n 2, 1) := sorry
theorem dJ12_vectorizedHashCode_71 : decode cJ12_vectorizedHashCode 71 = .ok (.invokestatic 66, 3) := sorry
theorem dJ12_vectorizedHashCode_74 : decode cJ12_vectorizedHashCode 74 = .ok (.goto 83, 3) := sorry
theorem dJ12_vectorizedHashCode_77 : decode cJ12_vectorizedHashCode 77 = .ok (.iload_n 3, 1) := sorry
theorem dJ12_vectorizedHashCode_78 : decode cJ12_vectorizedHashCode 78 = .ok (.aload_n 0, 1) := sorry
theorem dJ12_vectorizedHashCode_79 : decode cJ12_vectorizedHashCode 79 = .ok (.checkcast 69, 3) := sorry
theorem dJ12_vectorizedHashCode_82 : decode cJ12_vectorizedHashCode 82 = .ok (.iload_n 1, 1) := sorry
theorem dJ12_vectorizedHashCode_83 : decode cJ12_vectorizedHashCode 83 = .ok (.iload_n 2, 1) := sorry
theorem dJ12_vectorizedHashCode_84 : decode cJ12_vectorizedHashCode 84 = .ok (.invokestatic 71, 3) := sorry
theorem dJ12_vectorizedHashCode_87 : decode cJ12_vectorizedHashCode 87 = .ok (.goto 70, 3) := sorry
theorem dJ12_vectorizedHashCode_90 : decode cJ12_vectorizedHashCode 90 = .ok (.iload_n 3, 1) := sorry
theorem dJ12_vectorizedHashCode_91 : decode cJ12_vectorizedHashCode 91 = .ok (.aload_n 0, 1) := sorry
theorem dJ12_vectorizedHashCode_92 : decode cJ12_vectorizedHashCode 92 = .ok (.checkcast 60, 3) := sorry
theorem dJ12_vectorizedHashCode_95 : decode cJ12_vectorizedHashCode 95 = .ok (.iload_n 1, 1) := sorry
theorem dJ12_vectorizedHashCode_96 : decode cJ12_vectorizedHashCode 96 = .ok (.iload_n 2, 1) := sorry
theorem dJ12_vectorizedHashCode_97 : decode cJ12_vectorizedHashCode 97 = .ok (.invokestatic 75, 3) := sorry
theorem dJ12_vectorizedHashCode_100 : decode cJ12_vectorizedHashCode 100 = .ok (.goto 57, 3) := sorry
theorem dJ12_vectorizedHashCode_103 : decode cJ12_vectorizedHashCode 103 = .ok (.iload_n 3, 1) := sorry
theorem dJ12_vectorizedHashCode_104 : decode cJ12_vectorizedHashCode 104 = .ok (.aload_n 0, 1) := sorry
theorem dJ12_vectorizedHashCode_105 : decode cJ12_vectorizedHashCode 105 = .ok (.checkcast 77, 3) := sorry
theorem dJ12_vectorizedHashCode_108 : decode cJ12_vectorizedHashCode 108 = .ok (.iload_n 1, 1) := sorry
theorem dJ12_vectorizedHashCode_109 : decode cJ12_vectorizedHashCode 109 = .ok (.iload_n 2, 1) := sorry
theorem dJ12_vectorizedHashCode_110 : decode cJ12_vectorizedHashCode 110 = .ok (.invokestatic 79, 3) := sorry
theorem dJ12_vectorizedHashCode_113 : decode cJ12_vectorizedHashCode 113 = .ok (.goto 44, 3) := sorry
theorem dJ12_vectorizedHashCode_116 : decode cJ12_vectorizedHashCode 116 = .ok (.iload_n 3, 1) := sorry
theorem dJ12_vectorizedHashCode_117 : decode cJ12_vectorizedHashCode 117 = .ok (.aload_n 0, 1) := sorry
theorem dJ12_vectorizedHashCode_118 : decode cJ12_vectorizedHashCode 118 = .ok (.checkcast 82, 3) := sorry
theorem dJ12_vectorizedHashCode_121 : decode cJ12_vectorizedHashCode 121 = .ok (.iload_n 1, 1) := sorry
theorem dJ12_vectorizedHashCode_122 : decode cJ12_vectorizedHashCode 122 = .ok (.iload_n 2, 1) := sorry
theorem dJ12_vectorizedHashCode_123 : decode cJ12_vectorizedHashCode 123 = .ok (.invokestatic 84, 3) := sorry
theorem dJ12_vectorizedHashCode_126 : decode cJ12_vectorizedHashCode 126 = .ok (.goto 31, 3) := sorry
theorem dJ12_vectorizedHashCode_129 : decode cJ12_vectorizedHashCode 129 = .ok (.new 87, 3) := sorry
theorem dJ12_vectorizedHashCode_132 : decode cJ12_vectorizedHashCode 132 = .ok (.dup, 1) := sorry
theorem dJ12_vectorizedHashCode_133 : decode cJ12_vectorizedHashCode 133 = .ok (.new 89, 3) := sorry
theorem dJ12_vectorizedHashCode_136 : decode cJ12_vectorizedHashCode 136 = .ok (.dup, 1) := sorry
theorem dJ12_vectorizedHashCode_137 : decode cJ12_vectorizedHashCode 137 = .ok (.invokespecial 91, 3) := sorry
theorem dJ12_vectorizedHashCode_140 : decode cJ12_vectorizedHashCode 140 = .ok (.ldc 92, 2) := sorry
theorem dJ12_vectorizedHashCode_142 : decode cJ12_vectorizedHashCode 142 = .ok (.invokevirtual 94, 3) := sorry
theorem dJ12_vectorizedHashCode_145 : decode cJ12_vectorizedHashCode 145 = .ok (.iload 4, 2) := sorry
theorem dJ12_vectorizedHashCode_147 : decode cJ12_vectorizedHashCode 147 = .ok (.invokevirtual 98, 3) := sorry
theorem dJ12_vectorizedHashCode_150 : decode cJ12_vectorizedHashCode 150 = .ok (.invokevirtual 101, 3) := sorry
theorem dJ12_vectorizedHashCode_153 : decode cJ12_vectorizedHashCode 153 = .ok (.invokespecial 105, 3) := sorry
theorem dJ12_vectorizedHashCode_156 : decode cJ12_vectorizedHashCode 156 = .ok (.athrow, 1) := sorry
theorem dJ12_vectorizedHashCode_157 : decode cJ12_vectorizedHashCode 157 = .ok (.ireturn, 1) := sorry
abbrev cJ12_signedHashCode : ByteArray := prog_60_method_5_code
def yJ12_signedHashCode : MethodName := ⟨RJ12, "signedHashCode", "(I[BII)I"⟩
def dkwJ12_signedHashCode_1 : List UInt8 := [17, 0, 255, 126, 96, 59, 132, 5, 1, 167, 255, 232, 26, 172]
abbrev dktJ12_signedHashCode_1 : List UInt8 := dkwJ12_signedHashCode_1 ++ []
def dkwJ12_signedHashCode_0 : List UInt8 := [28, 29, 96, 54, 4, 28, 54, 5, 21, 5, 21, 4, 162, 0, 23, 16, 31, 26, 104, 43, 21, 5, 51]
abbrev dktJ12_signedHashCode_0 : List UInt8 := dkwJ12_signedHashCode_0 ++ dktJ12_signedHashCode_1
theorem dksJ12_signedHashCode_0 : cJ12_signedHashCode.data.toList.drop 0 = dktJ12_signedHashCode_0 := sorry
theorem dksJ12_signedHashCode_1 : cJ12_signedHashCode.data.toList.drop 23 = dktJ12_signedHashCode_1 := sorry
theorem dJ12_signedHashCode_0 : decode cJ12_signedHashCode 0 = .ok (.iload_n 2, 1) := sorry
theorem dJ12_signedHashCode_1 : decode cJ12_signedHashCode 1 = .ok (.iload_n 3, 1) := sorry
theorem dJ12_signedHashCode_2 : decode cJ12_signedHashCode 2 = .ok (.iadd, 1) := sorry
theorem dJ12_signedHashCode_3 : decode cJ12_signedHashCode 3 = .ok (.istore 4, 2) := sorry
theorem dJ12_signedHashCode_5 : decode cJ12_signedHashCode 5 = .ok (.iload_n 2, 1) := sorry
theorem dJ12_signedHashCode_6 : decode cJ12_signedHashCode 6 = .ok (.istore 5, 2) := sorry
theorem dJ12_signedHashCode_8 : decode cJ12_signedHashCode 8 = .ok (.iload 5, 2) := sorry
theorem dJ12_signedHashCode_10 : decode cJ12_signedHashCode 10 = .ok (.iload 4, 2) := sorry
theorem dJ12_signedHashCode_12 : decode cJ12_signedHashCode 12 = .ok (.if_icmp .ge 23, 3) := sorry
theorem dJ12_signedHashCode_15 : decode cJ12_signedHashCode 15 = .ok (.bipush 31, 2) := sorry
theorem dJ12_signedHashCode_17 : decode cJ12_signedHashCode 17 = .ok (.iload_n 0, 1) := sorry
theorem dJ12_signedHashCode_18 : decode cJ12_signedHashCode 18 = .ok (.imul, 1) := sorry
theorem dJ12_signedHashCode_19 : decode cJ12_signedHashCode 19 = .ok (.aload_n 1, 1) := sorry
theorem dJ12_signedHashCode_20 : decode cJ12_signedHashCode 20 = .ok (.iload 5, 2) := sorry
theorem dJ12_signedHashCode_22 : decode cJ12_signedHashCode 22 = .ok (.baload, 1) := sorry
theorem dJ12_signedHashCode_23 : decode cJ12_signedHashCode 23 = .ok (.sipush 255, 3) := sorry
theorem dJ12_signedHashCode_26 : decode cJ12_signedHashCode 26 = .ok (.iand, 1) := sorry
theorem dJ12_signedHashCode_27 : decode cJ12_signedHashCode 27 = .ok (.iadd, 1) := sorry
theorem dJ12_signedHashCode_28 : decode cJ12_signedHashCode 28 = .ok (.istore_n 0, 1) := sorry
theorem dJ12_signedHashCode_29 : decode cJ12_signedHashCode 29 = .ok (.iinc 5 1, 3) := sorry
theorem dJ12_signedHashCode_32 : decode cJ12_signedHashCode 32 = .ok (.goto (-24), 3) := sorry
theorem dJ12_signedHashCode_35 : decode cJ12_signedHashCode 35 = .ok (.iload_n 0, 1) := sorry
theorem dJ12_signedHashCode_36 : decode cJ12_signedHashCode 36 = .ok (.ireturn, 1) := sorry
abbrev cJ12_utf16hashCode : ByteArray := prog_60_method_10_code
def yJ12_utf16hashCode : MethodName := ⟨RJ12, "utf16hashCode", "(I[BII)I"⟩
def dkwJ12_utf16hashCode_1 : List UInt8 := [21, 5, 185, 0, 110, 3, 0, 96, 59, 132, 5, 1, 167, 255, 229, 26, 172]
abbrev dktJ12_utf16hashCode_1 : List UInt8 := dkwJ12_utf16hashCode_1 ++ []
def dkwJ12_utf16hashCode_0 : List UInt8 := [28, 29, 96, 54, 4, 28, 54, 5, 21, 5, 21, 4, 162, 0, 26, 16, 31, 26, 104, 178, 0, 106, 43]
abbrev dktJ12_utf16hashCode_0 : List UInt8 := dkwJ12_utf16hashCode_0 ++ dktJ12_utf16hashCode_1
theorem dksJ12_utf16hashCode_0 : cJ12_utf16hashCode.data.toList.drop 0 = dktJ12_utf16hashCode_0 := sorry
theorem dksJ12_utf16hashCode_1 : cJ12_utf16hashCode.data.toList.drop 23 = dktJ12_utf16hashCode_1 := sorry
theorem dJ12_utf16hashCode_0 : decode cJ12_utf16hashCode 0 = .ok (.iload_n 2, 1) := sorry
theorem dJ12_utf16hashCode_1 : decode cJ12_utf16hashCode 1 = .ok (.iload_n 3, 1) := sorry
theorem dJ12_utf16hashCode_2 : decode cJ12_utf16hashCode 2 = .ok (.iadd, 1) := sorry
theorem dJ12_utf16hashCode_3 : decode cJ12_utf16hashCode 3 = .ok (.istore 4, 2) := sorry
theorem dJ12_utf16hashCode_5 : decode cJ12_utf16hashCode 5 = .ok (.iload_n 2, 1) := sorry
theorem dJ12_utf16hashCode_6 : decode cJ12_utf16hashCode 6 = .ok (.istore 5, 2) := sorry
theorem dJ12_utf16hashCode_8 : decode cJ12_utf16hashCode 8 = .ok (.iload 5, 2) := sorry
theorem dJ12_utf16hashCode_10 : decode cJ12_utf16hashCode 10 = .ok (.iload 4, 2) := sorry
theorem dJ12_utf16hashCode_12 : decode cJ12_utf16hashCode 12 = .ok (.if_icmp .ge 26, 3) := sorry
theorem dJ12_utf16hashCode_15 : decode cJ12_utf16hashCode 15 = .ok (.bipush 31, 2) := sorry
theorem dJ12_utf16hashCode_17 : decode cJ12_utf16hashCode 17 = .ok (.iload_n 0, 1) := sorry
theorem dJ12_utf16hashCode_18 : decode cJ12_utf16hashCode 18 = .ok (.imul, 1) := sorry
theorem dJ12_utf16hashCode_19 : decode cJ12_utf16hashCode 19 = .ok (.getstatic 106, 3) := sorry
theorem dJ12_utf16hashCode_22 : decode cJ12_utf16hashCode 22 = .ok (.aload_n 1, 1) := sorry
theorem dJ12_utf16hashCode_23 : decode cJ12_utf16hashCode 23 = .ok (.iload 5, 2) := sorry
theorem dJ12_utf16hashCode_25 : decode cJ12_utf16hashCode 25 = .ok (.invokeinterface 110 3, 5) := sorry
theorem dJ12_utf16hashCode_30 : decode cJ12_utf16hashCode 30 = .ok (.iadd, 1) := sorry
theorem dJ12_utf16hashCode_31 : decode cJ12_utf16hashCode 31 = .ok (.istore_n 0, 1) := sorry
theorem dJ12_utf16hashCode_32 : decode cJ12_utf16hashCode 32 = .ok (.iinc 5 1, 3) := sorry
theorem dJ12_utf16hashCode_35 : decode cJ12_utf16hashCode 35 = .ok (.goto (-27), 3) := sorry
theorem dJ12_utf16hashCode_38 : decode cJ12_utf16hashCode 38 = .ok (.iload_n 0, 1) := sorry
theorem dJ12_utf16hashCode_39 : decode cJ12_utf16hashCode 39 = .ok (.ireturn, 1) := sorry
abbrev cJ12_hashCode : ByteArray := prog_60_method_7_code
def yJ12_hashCode : MethodName := ⟨RJ12, "hashCode", "(I[CII)I"⟩
def dkwJ12_hashCode_1 : List UInt8 := [59, 132, 5, 1, 167, 255, 236, 26, 172]
abbrev dktJ12_hashCode_1 : List UInt8 := dkwJ12_hashCode_1 ++ []
def dkwJ12_hashCode_0 : List UInt8 := [28, 29, 96, 54, 4, 28, 54, 5, 21, 5, 21, 4, 162, 0, 19, 16, 31, 26, 104, 43, 21, 5, 52, 96]
abbrev dktJ12_hashCode_0 : List UInt8 := dkwJ12_hashCode_0 ++ dktJ12_hashCode_1
theorem dksJ12_hashCode_0 : cJ12_hashCode.data.toList.drop 0 = dktJ12_hashCode_0 := sorry
theorem dksJ12_hashCode_1 : cJ12_hashCode.data.toList.drop 24 = dktJ12_hashCode_1 := sorry
theorem dJ12_hashCode_0 : decode cJ12_hashCode 0 = .ok (.iload_n 2, 1) := sorry
theorem dJ12_hashCode_1 : decode cJ12_hashCode 1 = .ok (.iload_n 3, 1) := sorry
theorem dJ12_hashCode_2 : decode cJ12_hashCode 2 = .ok (.iadd, 1) := sorry
theorem dJ12_hashCode_3 : decode cJ12_hashCode 3 = .ok (.istore 4, 2) := sorry
theorem dJ12_hashCode_5 : decode cJ12_hashCode 5 = .ok (.iload_n 2, 1) := sorry
theorem dJ12_hashCode_6 : decode cJ12_hashCode 6 = .ok (.istore 5, 2) := sorry
theorem dJ12_hashCode_8 : decode cJ12_hashCode 8 = .ok (.iload 5, 2) := sorry
theorem dJ12_hashCode_10 : decode cJ12_hashCode 10 = .ok (.iload 4, 2) := sorry
theorem dJ12_hashCode_12 : decode cJ12_hashCode 12 = .ok (.if_icmp .ge 19, 3) := sorry
theorem dJ12_hashCode_15 : decode cJ12_hashCode 15 = .ok (.bipush 31, 2) := sorry
theorem dJ12_hashCode_17 : decode cJ12_hashCode 17 = .ok (.iload_n 0, 1) := sorry
theorem dJ12_hashCode_18 : decode cJ12_hashCode 18 = .ok (.imul, 1) := sorry
theorem dJ12_hashCode_19 : decode cJ12_hashCode 19 = .ok (.aload_n 1, 1) := sorry
theorem dJ12_hashCode_20 : decode cJ12_hashCode 20 = .ok (.iload 5, 2) := sorry
theorem dJ12_hashCode_22 : decode cJ12_hashCode 22 = .ok (.caload, 1) := sorry
theorem dJ12_hashCode_23 : decode cJ12_hashCode 23 = .ok (.iadd, 1) := sorry
theorem dJ12_hashCode_24 : decode cJ12_hashCode 24 = .ok (.istore_n 0, 1) := sorry
theorem dJ12_hashCode_25 : decode cJ12_hashCode 25 = .ok (.iinc 5 1, 3) := sorry
theorem dJ12_hashCode_28 : decode cJ12_hashCode 28 = .ok (.goto (-20), 3) := sorry
theorem dJ12_hashCode_31 : decode cJ12_hashCode 31 = .ok (.iload_n 0, 1) := sorry
theorem dJ12_hashCode_32 : decode cJ12_hashCode 32 = .ok (.ireturn, 1) := sorry
abbrev cJ12_hashCode_2 : ByteArray := prog_60_method_6_code
def yJ12_hashCode_2 : MethodName := ⟨RJ12, "hashCode", "(I[BII)I"⟩
def dkwJ12_hashCode_2_1 : List UInt8 := [59, 132, 5, 1, 167, 255, 236, 26, 172]
abbrev dktJ12_hashCode_2_1 : List UInt8 := dkwJ12_hashCode_2_1 ++ []
def dkwJ12_hashCode_2_0 : List UInt8 := [28, 29, 96, 54, 4, 28, 54, 5, 21, 5, 21, 4, 162, 0, 19, 16, 31, 26, 104, 43, 21, 5, 51, 96]
abbrev dktJ12_hashCode_2_0 : List UInt8 := dkwJ12_hashCode_2_0 ++ dktJ12_hashCode_2_1
theorem dksJ12_hashCode_2_0 : cJ12_hashCode_2.data.toList.drop 0 = dktJ12_hashCode_2_0 := sorry
theorem dksJ12_hashCode_2_1 : cJ12_hashCode_2.data.toList.drop 24 = dktJ12_hashCode_2_1 := sorry
theorem dJ12_hashCode_2_0 : decode cJ12_hashCode_2 0 = .ok (.iload_n 2, 1) := sorry
theorem dJ12_hashCode_2_1 : decode cJ12_hashCode_2 1 = .ok (.iload_n 3, 1) := sorry
theorem dJ12_hashCode_2_2 : decode cJ12_hashCode_2 2 = .ok (.iadd, 1) := sorry
theorem dJ12_hashCode_2_3 : decode cJ12_hashCode_2 3 = .ok (.istore 4, 2) := sorry
theorem dJ12_hashCode_2_5 : decode cJ12_hashCode_2 5 = .ok (.iload_n 2, 1) := sorry
theorem dJ12_hashCode_2_6 : decode cJ12_hashCode_2 6 = .ok (.istore 5, 2) := sorry
theorem dJ12_hashCode_2_8 : decode cJ12_hashCode_2 8 = .ok (.iload 5, 2) := sorry
theorem dJ12_hashCode_2_10 : decode cJ12_hashCode_2 10 = .ok (.iload 4, 2) := sorry
theorem dJ12_hashCode_2_12 : decode cJ12_hashCode_2 12 = .ok (.if_icmp .ge 19, 3) := sorry
theorem dJ12_hashCode_2_15 : decode cJ12_hashCode_2 15 = .ok (.bipush 31, 2) := sorry
theorem dJ12_hashCode_2_17 : decode cJ12_hashCode_2 17 = .ok (.iload_n 0, 1) := sorry
theorem dJ12_hashCode_2_18 : decode cJ12_hashCode_2 18 = .ok (.imul, 1) := sorry
theorem dJ12_hashCode_2_19 : decode cJ12_hashCode_2 19 = .ok (.aload_n 1, 1) := sorry
theorem dJ12_hashCode_2_20 : decode cJ12_hashCode_2 20 = .ok (.iload 5, 2) := sorry
theorem dJ12_hashCode_2_22 : decode cJ12_hashCode_2 22 = .ok (.baload, 1) := sorry
theorem dJ12_hashCode_2_23 : decode cJ12_hashCode_2 23 = .ok (.iadd, 1) := sorry
theorem dJ12_hashCode_2_24 : decode cJ12_hashCode_2 24 = .ok (.istore_n 0, 1) := sorry
theorem dJ12_hashCode_2_25 : decode cJ12_hashCode_2 25 = .ok (.iinc 5 1, 3) := sorry
theorem dJ12_hashCode_2_28 : decode cJ12_hashCode_2 28 = .ok (.goto (-20), 3) := sorry
theorem dJ12_hashCode_2_31 : decode cJ12_hashCode_2 31 = .ok (.iload_n 0, 1) := sorry
theorem dJ12_hashCode_2_32 : decode cJ12_hashCode_2 32 = .ok (.ireturn, 1) := sorry
abbrev cJ12_hashCode_3 : ByteArray := prog_60_method_8_code
def yJ12_hashCode_3 : MethodName := ⟨RJ12, "hashCode", "(I[SII)I"⟩
def dkwJ12_hashCode_3_1 : List UInt8 := [59, 132, 5, 1, 167, 255, 236, 26, 172]
abbrev dktJ12_hashCode_3_1 : List UInt8 := dkwJ12_hashCode_3_1 ++ []
def dkwJ12_hashCode_3_0 : List UInt8 := [28, 29, 96, 54, 4, 28, 54, 5, 21, 5, 21, 4, 162, 0, 19, 16, 31, 26, 104, 43, 21, 5, 53, 96]
abbrev dktJ12_hashCode_3_0 : List UInt8 := dkwJ12_hashCode_3_0 ++ dktJ12_hashCode_3_1
theorem dksJ12_hashCode_3_0 : cJ12_hashCode_3.data.toList.drop 0 = dktJ12_hashCode_3_0 := sorry
theorem dksJ12_hashCode_3_1 : cJ12_hashCode_3.data.toList.drop 24 = dktJ12_hashCode_3_1 := sorry
theorem dJ12_hashCode_3_0 : decode cJ12_hashCode_3 0 = .ok (.iload_n 2, 1) := sorry
theorem dJ12_hashCode_3_1 : decode cJ12_hashCode_3 1 = .ok (.iload_n 3, 1) := sorry
theorem dJ12_hashCode_3_2 : decode cJ12_hashCode_3 2 = .ok (.iadd, 1) := sorry
theorem dJ12_hashCode_3_3 : decode cJ12_hashCode_3 3 = .ok (.istore 4, 2) := sorry
theorem dJ12_hashCode_3_5 : decode cJ12_hashCode_3 5 = .ok (.iload_n 2, 1) := sorry
theorem dJ12_hashCode_3_6 : decode cJ12_hashCode_3 6 = .ok (.istore 5, 2) := sorry
theorem dJ12_hashCode_3_8 : decode cJ12_hashCode_3 8 = .ok (.iload 5, 2) := sorry
theorem dJ12_hashCode_3_10 : decode cJ12_hashCode_3 10 = .ok (.iload 4, 2) := sorry
theorem dJ12_hashCode_3_12 : decode cJ12_hashCode_3 12 = .ok (.if_icmp .ge 19, 3) := sorry
theorem dJ12_hashCode_3_15 : decode cJ12_hashCode_3 15 = .ok (.bipush 31, 2) := sorry
theorem dJ12_hashCode_3_17 : decode cJ12_hashCode_3 17 = .ok (.iload_n 0, 1) := sorry
theorem dJ12_hashCode_3_18 : decode cJ12_hashCode_3 18 = .ok (.imul, 1) := sorry
theorem dJ12_hashCode_3_19 : decode cJ12_hashCode_3 19 = .ok (.aload_n 1, 1) := sorry
theorem dJ12_hashCode_3_20 : decode cJ12_hashCode_3 20 = .ok (.iload 5, 2) := sorry
theorem dJ12_hashCode_3_22 : decode cJ12_hashCode_3 22 = .ok (.saload, 1) := sorry
theorem dJ12_hashCode_3_23 : decode cJ12_hashCode_3 23 = .ok (.iadd, 1) := sorry
theorem dJ12_hashCode_3_24 : decode cJ12_hashCode_3 24 = .ok (.istore_n 0, 1) := sorry
theorem dJ12_hashCode_3_25 : decode cJ12_hashCode_3 25 = .ok (.iinc 5 1, 3) := sorry
theorem dJ12_hashCode_3_28 : decode cJ12_hashCode_3 28 = .ok (.goto (-20), 3) := sorry
theorem dJ12_hashCode_3_31 : decode cJ12_hashCode_3 31 = .ok (.iload_n 0, 1) := sorry
theorem dJ12_hashCode_3_32 : decode cJ12_hashCode_3 32 = .ok (.ireturn, 1) := sorry
abbrev cJ12_hashCode_4 : ByteArray := prog_60_method_9_code
def yJ12_hashCode_4 : MethodName := ⟨RJ12, "hashCode", "(I[III)I"⟩
def dkwJ12_hashCode_4_1 : List UInt8 := [59, 132, 5, 1, 167, 255, 236, 26, 172]
abbrev dktJ12_hashCode_4_1 : List UInt8 := dkwJ12_hashCode_4_1 ++ []
def dkwJ12_hashCode_4_0 : List UInt8 := [28, 29, 96, 54, 4, 28, 54, 5, 21, 5, 21, 4, 162, 0, 19, 16, 31, 26, 104, 43, 21, 5, 46, 96]
abbrev dktJ12_hashCode_4_0 : List UInt8 := dkwJ12_hashCode_4_0 ++ dktJ12_hashCode_4_1
theorem dksJ12_hashCode_4_0 : cJ12_hashCode_4.data.toList.drop 0 = dktJ12_hashCode_4_0 := sorry
theorem dksJ12_hashCode_4_1 : cJ12_hashCode_4.data.toList.drop 24 = dktJ12_hashCode_4_1 := sorry
theorem dJ12_hashCode_4_0 : decode cJ12_hashCode_4 0 = .ok (.iload_n 2, 1) := sorry
theorem dJ12_hashCode_4_1 : decode cJ12_hashCode_4 1 = .ok (.iload_n 3, 1) := sorry
theorem dJ12_hashCode_4_2 : decode cJ12_hashCode_4 2 = .ok (.iadd, 1) := sorry
theorem dJ12_hashCode_4_3 : decode cJ12_hashCode_4 3 = .ok (.istore 4, 2) := sorry
theorem dJ12_hashCode_4_5 : decode cJ12_hashCode_4 5 = .ok (.iload_n 2, 1) := sorry
theorem dJ12_hashCode_4_6 : decode cJ12_hashCode_4 6 = .ok (.istore 5, 2) := sorry
theorem dJ12_hashCode_4_8 : decode cJ12_hashCode_4 8 = .ok (.iload 5, 2) := sorry
theorem dJ12_hashCode_4_10 : decode cJ12_hashCode_4 10 = .ok (.iload 4, 2) := sorry
theorem dJ12_hashCode_4_12 : decode cJ12_hashCode_4 12 = .ok (.if_icmp .ge 19, 3) := sorry
theorem dJ12_hashCode_4_15 : decode cJ12_hashCode_4 15 = .ok (.bipush 31, 2) := sorry
theorem dJ12_hashCode_4_17 : decode cJ12_hashCode_4 17 = .ok (.iload_n 0, 1) := sorry
theorem dJ12_hashCode_4_18 : decode cJ12_hashCode_4 18 = .ok (.imul, 1) := sorry
theorem dJ12_hashCode_4_19 : decode cJ12_hashCode_4 19 = .ok (.aload_n 1, 1) := sorry
theorem dJ12_hashCode_4_20 : decode cJ12_hashCode_4 20 = .ok (.iload 5, 2) := sorry
theorem dJ12_hashCode_4_22 : decode cJ12_hashCode_4 22 = .ok (.iaload, 1) := sorry
theorem dJ12_hashCode_4_23 : decode cJ12_hashCode_4 23 = .ok (.iadd, 1) := sorry
theorem dJ12_hashCode_4_24 : decode cJ12_hashCode_4 24 = .ok (.istore_n 0, 1) := sorry
theorem dJ12_hashCode_4_25 : decode cJ12_hashCode_4 25 = .ok (.iinc 5 1, 3) := sorry
theorem dJ12_hashCode_4_28 : decode cJ12_hashCode_4 28 = .ok (.goto (-20), 3) := sorry
theorem dJ12_hashCode_4_31 : decode cJ12_hashCode_4 31 = .ok (.iload_n 0, 1) := sorry
theorem dJ12_hashCode_4_32 : decode cJ12_hashCode_4 32 = .ok (.ireturn, 1) := sorry
theorem q98 : (Jvm.Cond.initialized "jdk/internal/util/ArraysSupport") ∈ lw_all := sorry
theorem q279 : (Jvm.Cond.static ({ cls := "jdk/internal/util/ArraysSupport", name := "newLength", desc := "(III)I" } : Jvm.MethodName)) ∈ lw_all := sorry
theorem q280 : (Jvm.Cond.code ({ cls := "jdk/internal/util/ArraysSupport", name := "newLength", desc := "(III)I" } : Jvm.MethodName) prog_60_method_27_code (4 : Nat) (Option.some Jvm.ClassFile.FieldType.int)) ∈ lw_all := sorry
theorem q281 : (Jvm.Cond.methodLink "jdk/internal/util/ArraysSupport" (194 : Nat) ({ cls := "java/lang/Math", name := "max", desc := "(II)I" } : Jvm.MethodName)) ∈ lw_all := sorry
theorem q284 : (Jvm.Cond.constant "jdk/internal/util/ArraysSupport" (200 : Nat) (2147483639 : Int32)) ∈ lw_all := sorry
theorem q285 : (Jvm.Cond.methodLink "jdk/internal/util/ArraysSupport" (201 : Nat) ({ cls := "jdk/internal/util/ArraysSupport", name := "hugeLength", desc := "(II)I" } : Jvm.MethodName)) ∈ lw_all := sorry
theorem q286 : (Jvm.Cond.static ({ cls := "jdk/internal/util/ArraysSupport", name := "hugeLength", desc := "(II)I" } : Jvm.MethodName)) ∈ lw_all := sorry
theorem q287 : (Jvm.Cond.code ({ cls := "jdk/internal/util/ArraysSupport", name := "hugeLength", desc := "(II)I" } : Jvm.MethodName) prog_60_method_28_code (3 : Nat) (Option.some Jvm.ClassFile.FieldType.int)) ∈ lw_all := sorry
theorem q1103 : (Jvm.Cond.static ({ cls := "jdk/internal/util/ArraysSupport", name := "vectorizedHashCode", desc := "(Ljava/lang/Object;IIII)I" } : Jvm.MethodName)) ∈ lw_all := sorry
theorem q1104 : (Jvm.Cond.code ({ cls := "jdk/internal/util/ArraysSupport", name := "vectorizedHashCode", desc := "(Ljava/lang/Object;IIII)I" } : Jvm.MethodName) prog_60_method_4_code (5 : Nat) (Option.some Jvm.ClassFile.FieldType.int)) ∈ lw_all := sorry
theorem q1105 : (Jvm.Cond.classLink "jdk/internal/util/ArraysSupport" (60 : Nat) "[B") ∈ lw_all := sorry
theorem q1106 : (Jvm.Cond.methodLink "jdk/internal/util/ArraysSupport" (62 : Nat) ({ cls := "jdk/internal/util/ArraysSupport", name := "signedHashCode", desc := "(I[BII)I" } : Jvm.MethodName)) ∈ lw_all := sorry
theorem q1107 : (Jvm.Cond.static ({ cls := "jdk/internal/util/ArraysSupport", name := "signedHashCode", desc := "(I[BII)I" } : Jvm.MethodName)) ∈ lw_all := sorry
theorem q1108 : (Jvm.Cond.code ({ cls := "jdk/internal/util/ArraysSupport", name := "signedHashCode", desc := "(I[BII)I" } : Jvm.MethodName) prog_60_method_5_code (6 : Nat) (Option.some Jvm.ClassFile.FieldType.int)) ∈ lw_all := sorry
theorem q1109 : (Jvm.Cond.methodLink "jdk/internal/util/ArraysSupport" (66 : Nat) ({ cls := "jdk/internal/util/ArraysSupport", name := "utf16hashCode", desc := "(I[BII)I" } : Jvm.MethodName)) ∈ lw_all := sorry
theorem q1110 : (Jvm.Cond.static ({ cls := "jdk/internal/util/ArraysSupport", name := "utf16hashCode", desc := "(I[BII)I" } : Jvm.MethodName)) ∈ lw_all := sorry
theorem q1111 : (Jvm.Cond.code ({ cls := "jdk/internal/util/ArraysSupport", name := "utf16hashCode", desc := "(I[BII)I" } : Jvm.MethodName) prog_60_method_10_code (6 : Nat) (Option.some Jvm.ClassFile.FieldType.int)) ∈ lw_all := sorry
theorem q1112 : (Jvm.Cond.fieldLink "jdk/internal/util/ArraysSupport" (106 : Nat) "jdk/internal/util/ArraysSupport" "JLA" "Ljdk/internal/access/JavaLangAccess;") ∈ lw_all := sorry
theorem q1113 : (Jvm.Cond.laysStatic "jdk/internal/util/ArraysSupport" "JLA" "Ljdk/internal/access/JavaLangAccess;") ∈ lw_tbl := sorry
theorem q1114 : (Jvm.Cond.interfaceEntry "jdk/internal/util/ArraysSupport" (110 : Nat)) ∈ lw_tbl := sorry
theorem q1115 : (Jvm.Cond.methodLink "jdk/internal/util/ArraysSupport" (110 : Nat) ({ cls := "jdk/internal/access/JavaLangAccess", name := "getUTF16Char", desc := "([BI)C" } : Jvm.MethodName)) ∈ lw_all := sorry
theorem q1125 : (Jvm.Cond.classLink "jdk/internal/util/ArraysSupport" (69 : Nat) "[C") ∈ lw_all := sorry
theorem q1126 : (Jvm.Cond.methodLink "jdk/internal/util/ArraysSupport" (71 : Nat) ({ cls := "jdk/internal/util/ArraysSupport", name := "hashCode", desc := "(I[CII)I" } : Jvm.MethodName)) ∈ lw_all := sorry
theorem q1127 : (Jvm.Cond.static ({ cls := "jdk/internal/util/ArraysSupport", name := "hashCode", desc := "(I[CII)I" } : Jvm.MethodName)) ∈ lw_all := sorry
theorem q1128 : (Jvm.Cond.code ({ cls := "jdk/internal/util/ArraysSupport", name := "hashCode", desc := "(I[CII)I" } : Jvm.MethodName) prog_60_method_7_code (6 : Nat) (Option.some Jvm.ClassFile.FieldType.int)) ∈ lw_all := sorry
theorem q1129 : (Jvm.Cond.methodLink "jdk/internal/util/ArraysSupport" (75 : Nat) ({ cls := "jdk/internal/util/ArraysSupport", name := "hashCode", desc := "(I[BII)I" } : Jvm.MethodName)) ∈ lw_all := sorry
theorem q1130 : (Jvm.Cond.static ({ cls := "jdk/internal/util/ArraysSupport", name := "hashCode", desc := "(I[BII)I" } : Jvm.MethodName)) ∈ lw_all := sorry
theorem q1131 : (Jvm.Cond.code ({ cls := "jdk/internal/util/ArraysSupport", name := "hashCode", desc := "(I[BII)I" } : Jvm.MethodName) prog_60_method_6_code (6 : Nat) (Option.some Jvm.ClassFile.FieldType.int)) ∈ lw_all := sorry
theorem q1132 : (Jvm.Cond.classLink "jdk/internal/util/ArraysSupport" (77 : Nat) "[S") ∈ lw_all := sorry
theorem q1133 : (Jvm.Cond.methodLink "jdk/internal/util/ArraysSupport" (79 : Nat) ({ cls := "jdk/internal/util/ArraysSupport", name := "hashCode", desc := "(I[SII)I" } : Jvm.MethodName)) ∈ lw_all := sorry
theorem q1134 : (Jvm.Cond.static ({ cls := "jdk/internal/util/ArraysSupport", name := "hashCode", desc := "(I[SII)I" } : Jvm.MethodName)) ∈ lw_all := sorry
theorem q1135 : (Jvm.Cond.code ({ cls := "jdk/internal/util/ArraysSupport", name := "hashCode", desc := "(I[SII)I" } : Jvm.MethodName) prog_60_method_8_code (6 : Nat) (Option.some Jvm.ClassFile.FieldType.int)) ∈ lw_all := sorry
theorem q1136 : (Jvm.Cond.classLink "jdk/internal/util/ArraysSupport" (82 : Nat) "[I") ∈ lw_all := sorry
theorem q1137 : (Jvm.Cond.methodLink "jdk/internal/util/ArraysSupport" (84 : Nat) ({ cls := "jdk/internal/util/ArraysSupport", name := "hashCode", desc := "(I[III)I" } : Jvm.MethodName)) ∈ lw_all := sorry
theorem q1138 : (Jvm.Cond.static ({ cls := "jdk/internal/util/ArraysSupport", name := "hashCode", desc := "(I[III)I" } : Jvm.MethodName)) ∈ lw_all := sorry
theorem q1139 : (Jvm.Cond.code ({ cls := "jdk/internal/util/ArraysSupport", name := "hashCode", desc := "(I[III)I" } : Jvm.MethodName) prog_60_method_9_code (6 : Nat) (Option.some Jvm.ClassFile.FieldType.int)) ∈ lw_all := sorry
theorem q1140 : (Jvm.Cond.classLink "jdk/internal/util/ArraysSupport" (87 : Nat) "java/lang/IllegalArgumentException") ∈ lw_all := sorry
theorem q1141 : (Jvm.Cond.classLink "jdk/internal/util/ArraysSupport" (89 : Nat) "java/lang/StringBuilder") ∈ lw_all := sorry
theorem q1142 : (Jvm.Cond.methodLink "jdk/internal/util/ArraysSupport" (91 : Nat) ({ cls := "java/lang/StringBuilder", name := "<init>", desc := "()V" } : Jvm.MethodName)) ∈ lw_all := sorry
theorem q1143 : (Jvm.Cond.stringRef "jdk/internal/util/ArraysSupport" (92 : Nat) "unrecognized basic type: ") ∈ lw_tbl := sorry
theorem q1144 : (Jvm.Cond.methodLink "jdk/internal/util/ArraysSupport" (94 : Nat) ({ cls := "java/lang/StringBuilder", name := "append", desc := "(Ljava/lang/String;)Ljava/lang/StringBuilder;" } : Jvm.MethodName)) ∈ lw_all := sorry
theorem q1145 : (Jvm.Cond.methodLink "jdk/internal/util/ArraysSupport" (98 : Nat) ({ cls := "java/lang/StringBuilder", name := "append", desc := "(I)Ljava/lang/StringBuilder;" } : Jvm.MethodName)) ∈ lw_all := sorry
theorem q1146 : (Jvm.Cond.methodLink "jdk/internal/util/ArraysSupport" (101 : Nat) ({ cls := "java/lang/StringBuilder", name := "toString", desc := "()Ljava/lang/String;" } : Jvm.MethodName)) ∈ lw_all := sorry
theorem q1147 : (Jvm.Cond.methodLink "jdk/internal/util/ArraysSupport" (105 : Nat) ({ cls := "java/lang/IllegalArgumentException", name := "<init>", desc := "(Ljava/lang/String;)V" } : Jvm.MethodName)) ∈ lw_all := sorry
/-! java/lang/Math -/
set_option maxRecDepth 100000
def RJ13 : String := "java/lang/Math"
abbrev cJ13_max : ByteArray := prog_31_method_65_code
def yJ13_max : MethodName := ⟨RJ13, "max", "(II)I"⟩
def dkwJ13_max_0 : List UInt8 := [26, 27, 161, 0, 7, 26, 167, 0, 4, 27, 172]
abbrev dktJ13_max_0 : List UInt8 := dkwJ13_max_0 ++ []
theorem dksJ13_max_0 : cJ13_max.data.toList.drop 0 = dktJ13_max_0 := sorry
theorem dJ13_max_0 : decode cJ13_max 0 = .ok (.iload_n 0, 1) := sorry
theorem dJ13_max_1 : decode cJ13_max 1 = .ok (.iload_n 1, 1) := sorry
theorem dJ13_max_2 : decode cJ13_max 2 = .ok (.if_icmp .lt 7, 3) := sorry
theorem dJ13_max_5 : decode cJ13_max 5 = .ok (.iload_n 0, 1) := sorry
theorem dJ13_max_6 : decode cJ13_max 6 = .ok (.goto 4, 3) := sorry
theorem dJ13_max_9 : decode cJ13_max 9 = .ok (.iload_n 1, 1) := sorry
theorem dJ13_max_10 : decode cJ13_max 10 = .ok (.ireturn, 1) := sorry
abbrev cJ13_min : ByteArray := prog_31_method_69_code
def yJ13_min : MethodName := ⟨RJ13, "min", "(II)I"⟩
def dkwJ13_min_0 : List UInt8 := [26, 27, 163, 0, 7, 26, 167, 0, 4, 27, 172]
abbrev dktJ13_min_0 : List UInt8 := dkwJ13_min_0 ++ []
theorem dksJ13_min_0 : cJ13_min.data.toList.drop 0 = dktJ13_min_0 := sorry
theorem dJ13_min_0 : decode cJ13_min 0 = .ok (.iload_n 0, 1) := sorry
theorem dJ13_min_1 : decode cJ13_min 1 = .ok (.iload_n 1, 1) := sorry
theorem dJ13_min_2 : decode cJ13_min 2 = .ok (.if_icmp .gt 7, 3) := sorry
theorem dJ13_min_5 : decode cJ13_min 5 = .ok (.iload_n 0, 1) := sorry
theorem dJ13_min_6 : decode cJ13_min 6 = .ok (.goto 4, 3) := sorry
theorem dJ13_min_9 : decode cJ13_min 9 = .ok (.iload_n 1, 1) := sorry
theorem dJ13_min_10 : decode cJ13_min 10 = .ok (.ireturn, 1) := sorry
theorem q99 : (Jvm.Cond.initialized "java/lang/Math") ∈ lw_all := sorry
theorem q282 : (Jvm.Cond.static ({ cls := "java/lang/Math", name := "max", desc := "(II)I" } : Jvm.MethodName)) ∈ lw_all := sorry
theorem q283 : (Jvm.Cond.code ({ cls := "java/lang/Math", name := "max", desc := "(II)I" } : Jvm.MethodName) prog_31_method_65_code (2 : Nat) (Option.some Jvm.ClassFile.FieldType.int)) ∈ lw_all := sorry
theorem q300 : (Jvm.Cond.static ({ cls := "java/lang/Math", name := "min", desc := "(II)I" } : Jvm.MethodName)) ∈ lw_all := sorry
theorem q301 : (Jvm.Cond.code ({ cls := "java/lang/Math", name := "min", desc := "(II)I" } : Jvm.MethodName) prog_31_method_69_code (2 : Nat) (Option.some Jvm.ClassFile.FieldType.int)) ∈ lw_all := sorry
/-! java/util/Arrays -/
set_option maxRecDepth 100000
def RJ14 : String := "java/util/Arrays"
abbrev cJ14_copyOf : ByteArray := prog_49_method_121_code
def yJ14_copyOf : MethodName := ⟨RJ14, "copyOf", "([BI)[B"⟩
def dkwJ14_copyOf_1 : List UInt8 := [27, 184, 1, 48, 184, 0, 150, 44, 176]
abbrev dktJ14_copyOf_1 : List UInt8 := dkwJ14_copyOf_1 ++ []
def dkwJ14_copyOf_0 : List UInt8 := [27, 42, 190, 160, 0, 11, 42, 182, 1, 54, 192, 1, 55, 176, 27, 188, 8, 77, 42, 3, 44, 3, 42, 190]
abbrev dktJ14_copyOf_0 : List UInt8 := dkwJ14_copyOf_0 ++ dktJ14_copyOf_1
theorem dksJ14_copyOf_0 : cJ14_copyOf.data.toList.drop 0 = dktJ14_copyOf_0 := sorry
theorem dksJ14_copyOf_1 : cJ14_copyOf.data.toList.drop 24 = dktJ14_copyOf_1 := sorry
theorem dJ14_copyOf_0 : decode cJ14_copyOf 0 = .ok (.iload_n 1, 1) := sorry
theorem dJ14_copyOf_1 : decode cJ14_copyOf 1 = .ok (.aload_n 0, 1) := sorry
theorem dJ14_copyOf_2 : decode cJ14_copyOf 2 = .ok (.arraylength, 1) := sorry
theorem dJ14_copyOf_3 : decode cJ14_copyOf 3 = .ok (.if_icmp .ne 11, 3) := sorry
theorem dJ14_copyOf_6 : decode cJ14_copyOf 6 = .ok (.aload_n 0, 1) := sorry
theorem dJ14_copyOf_7 : decode cJ14_copyOf 7 = .ok (.invokevirtual 310, 3) := sorry
theorem dJ14_copyOf_10 : decode cJ14_copyOf 10 = .ok (.checkcast 311, 3) := sorry
theorem dJ14_copyOf_13 : decode cJ14_copyOf 13 = .ok (.areturn, 1) := sorry
theorem dJ14_copyOf_14 : decode cJ14_copyOf 14 = .ok (.iload_n 1, 1) := sorry
theorem dJ14_copyOf_15 : decode cJ14_copyOf 15 = .ok (.newarray .byte, 2) := sorry
theorem dJ14_copyOf_17 : decode cJ14_copyOf 17 = .ok (.astore_n 2, 1) := sorry
theorem dJ14_copyOf_18 : decode cJ14_copyOf 18 = .ok (.aload_n 0, 1) := sorry
theorem dJ14_copyOf_19 : decode cJ14_copyOf 19 = .ok (.iconst 0, 1) := sorry
theorem dJ14_copyOf_20 : decode cJ14_copyOf 20 = .ok (.aload_n 2, 1) := sorry
theorem dJ14_copyOf_21 : decode cJ14_copyOf 21 = .ok (.iconst 0, 1) := sorry
theorem dJ14_copyOf_22 : decode cJ14_copyOf 22 = .ok (.aload_n 0, 1) := sorry
theorem dJ14_copyOf_23 : decode cJ14_copyOf 23 = .ok (.arraylength, 1) := sorry
theorem dJ14_copyOf_24 : decode cJ14_copyOf 24 = .ok (.iload_n 1, 1) := sorry
theorem dJ14_copyOf_25 : decode cJ14_copyOf 25 = .ok (.invokestatic 304, 3) := sorry
theorem dJ14_copyOf_28 : decode cJ14_copyOf 28 = .ok (.invokestatic 150, 3) := sorry
theorem dJ14_copyOf_31 : decode cJ14_copyOf 31 = .ok (.aload_n 2, 1) := sorry
theorem dJ14_copyOf_32 : decode cJ14_copyOf 32 = .ok (.areturn, 1) := sorry
abbrev cJ14_copyOfRange : ByteArray := prog_49_method_132_code
def yJ14_copyOfRange : MethodName := ⟨RJ14, "copyOfRange", "([BII)[B"⟩
def dkwJ14_copyOfRange_1 : List UInt8 := [176]
abbrev dktJ14_copyOfRange_1 : List UInt8 := dkwJ14_copyOfRange_1 ++ []
def dkwJ14_copyOfRange_0 : List UInt8 := [27, 154, 0, 9, 28, 42, 190, 159, 0, 10, 42, 27, 28, 184, 1, 83, 176, 42, 182, 1, 54, 192, 1, 55]
abbrev dktJ14_copyOfRange_0 : List UInt8 := dkwJ14_copyOfRange_0 ++ dktJ14_copyOfRange_1
theorem dksJ14_copyOfRange_0 : cJ14_copyOfRange.data.toList.drop 0 = dktJ14_copyOfRange_0 := sorry
theorem dksJ14_copyOfRange_1 : cJ14_copyOfRange.data.toList.drop 24 = dktJ14_copyOfRange_1 := sorry
theorem dJ14_copyOfRange_0 : decode cJ14_copyOfRange 0 = .ok (.iload_n 1, 1) := sorry
theorem dJ14_copyOfRange_1 : decode cJ14_copyOfRange 1 = .ok (.ifCond .ne 9, 3) := sorry
theorem dJ14_copyOfRange_4 : decode cJ14_copyOfRange 4 = .ok (.iload_n 2, 1) := sorry
theorem dJ14_copyOfRange_5 : decode cJ14_copyOfRange 5 = .ok (.aload_n 0, 1) := sorry
theorem dJ14_copyOfRange_6 : decode cJ14_copyOfRange 6 = .ok (.arraylength, 1) := sorry
theorem dJ14_copyOfRange_7 : decode cJ14_copyOfRange 7 = .ok (.if_icmp .eq 10, 3) := sorry
theorem dJ14_copyOfRange_10 : decode cJ14_copyOfRange 10 = .ok (.aload_n 0, 1) := sorry
theorem dJ14_copyOfRange_11 : decode cJ14_copyOfRange 11 = .ok (.iload_n 1, 1) := sorry
theorem dJ14_copyOfRange_12 : decode cJ14_copyOfRange 12 = .ok (.iload_n 2, 1) := sorry
theorem dJ14_copyOfRange_13 : decode cJ14_copyOfRange 13 = .ok (.invokestatic 339, 3) := sorry
theorem dJ14_copyOfRange_16 : decode cJ14_copyOfRange 16 = .ok (.areturn, 1) := sorry
theorem dJ14_copyOfRange_17 : decode cJ14_copyOfRange 17 = .ok (.aload_n 0, 1) := sorry
theorem dJ14_copyOfRange_18 : decode cJ14_copyOfRange 18 = .ok (.invokevirtual 310, 3) := sorry
theorem dJ14_copyOfRange_21 : decode cJ14_copyOfRange 21 = .ok (.checkcast 311, 3) := sorry
theorem dJ14_copyOfRange_24 : decode cJ14_copyOfRange 24 = .ok (.areturn, 1) := sorry
abbrev cJ14_copyOfRangeByte : ByteArray := prog_49_method_133_code
def yJ14_copyOfRangeByte : MethodName := ⟨RJ14, "copyOfRangeByte", "([BII)[B"⟩
def dkwJ14_copyOfRangeByte_1 : List UInt8 := [184, 1, 48, 184, 0, 150, 25, 4, 176]
abbrev dktJ14_copyOfRangeByte_1 : List UInt8 := dkwJ14_copyOfRangeByte_1 ++ []
def dkwJ14_copyOfRangeByte_0 : List UInt8 := [27, 28, 184, 1, 87, 28, 27, 100, 62, 29, 188, 8, 58, 4, 42, 27, 25, 4, 3, 42, 190, 27, 100, 29]
abbrev dktJ14_copyOfRangeByte_0 : List UInt8 := dkwJ14_copyOfRangeByte_0 ++ dktJ14_copyOfRangeByte_1
theorem dksJ14_copyOfRangeByte_0 : cJ14_copyOfRangeByte.data.toList.drop 0 = dktJ14_copyOfRangeByte_0 := sorry
theorem dksJ14_copyOfRangeByte_1 : cJ14_copyOfRangeByte.data.toList.drop 24 = dktJ14_copyOfRangeByte_1 := sorry
theorem dJ14_copyOfRangeByte_0 : decode cJ14_copyOfRangeByte 0 = .ok (.iload_n 1, 1) := sorry
theorem dJ14_copyOfRangeByte_1 : decode cJ14_copyOfRangeByte 1 = .ok (.iload_n 2, 1) := sorry
theorem dJ14_copyOfRangeByte_2 : decode cJ14_copyOfRangeByte 2 = .ok (.invokestatic 343, 3) := sorry
theorem dJ14_copyOfRangeByte_5 : decode cJ14_copyOfRangeByte 5 = .ok (.iload_n 2, 1) := sorry
theorem dJ14_copyOfRangeByte_6 : decode cJ14_copyOfRangeByte 6 = .ok (.iload_n 1, 1) := sorry
theorem dJ14_copyOfRangeByte_7 : decode cJ14_copyOfRangeByte 7 = .ok (.isub, 1) := sorry
theorem dJ14_copyOfRangeByte_8 : decode cJ14_copyOfRangeByte 8 = .ok (.istore_n 3, 1) := sorry
theorem dJ14_copyOfRangeByte_9 : decode cJ14_copyOfRangeByte 9 = .ok (.iload_n 3, 1) := sorry
theorem dJ14_copyOfRangeByte_10 : decode cJ14_copyOfRangeByte 10 = .ok (.newarray .byte, 2) := sorry
theorem dJ14_copyOfRangeByte_12 : decode cJ14_copyOfRangeByte 12 = .ok (.astore 4, 2) := sorry
theorem dJ14_copyOfRangeByte_14 : decode cJ14_copyOfRangeByte 14 = .ok (.aload_n 0, 1) := sorry
theorem dJ14_copyOfRangeByte_15 : decode cJ14_copyOfRangeByte 15 = .ok (.iload_n 1, 1) := sorry
theorem dJ14_copyOfRangeByte_16 : decode cJ14_copyOfRangeByte 16 = .ok (.aload 4, 2) := sorry
theorem dJ14_copyOfRangeByte_18 : decode cJ14_copyOfRangeByte 18 = .ok (.iconst 0, 1) := sorry
theorem dJ14_copyOfRangeByte_19 : decode cJ14_copyOfRangeByte 19 = .ok (.aload_n 0, 1) := sorry
theorem dJ14_copyOfRangeByte_20 : decode cJ14_copyOfRangeByte 20 = .ok (.arraylength, 1) := sorry
theorem dJ14_copyOfRangeByte_21 : decode cJ14_copyOfRangeByte 21 = .ok (.iload_n 1, 1) := sorry
theorem dJ14_copyOfRangeByte_22 : decode cJ14_copyOfRangeByte 22 = .ok (.isub, 1) := sorry
theorem dJ14_copyOfRangeByte_23 : decode cJ14_copyOfRangeByte 23 = .ok (.iload_n 3, 1) := sorry
theorem dJ14_copyOfRangeByte_24 : decode cJ14_copyOfRangeByte 24 = .ok (.invokestatic 304, 3) := sorry
theorem dJ14_copyOfRangeByte_27 : decode cJ14_copyOfRangeByte 27 = .ok (.invokestatic 150, 3) := sorry
theorem dJ14_copyOfRangeByte_30 : decode cJ14_copyOfRangeByte 30 = .ok (.aload 4, 2) := sorry
theorem dJ14_copyOfRangeByte_32 : decode cJ14_copyOfRangeByte 32 = .ok (.areturn, 1) := sorry
abbrev cJ14_checkLength : ByteArray := prog_49_method_131_code
def yJ14_checkLength : MethodName := ⟨RJ14, "checkLength", "(II)V"⟩
def dkwJ14_checkLength_1 : List UInt8 := [182, 0, 50, 27, 182, 0, 54, 182, 0, 61, 183, 0, 65, 191, 177]
abbrev dktJ14_checkLength_1 : List UInt8 := dkwJ14_checkLength_1 ++ []
def dkwJ14_checkLength_0 : List UInt8 := [27, 26, 162, 0, 35, 187, 0, 43, 89, 187, 0, 45, 89, 183, 0, 47, 26, 182, 0, 54, 19, 1, 81]
abbrev dktJ14_checkLength_0 : List UInt8 := dkwJ14_checkLength_0 ++ dktJ14_checkLength_1
theorem dksJ14_checkLength_0 : cJ14_checkLength.data.toList.drop 0 = dktJ14_checkLength_0 := sorry
theorem dksJ14_checkLength_1 : cJ14_checkLength.data.toList.drop 23 = dktJ14_checkLength_1 := sorry
theorem dJ14_checkLength_0 : decode cJ14_checkLength 0 = .ok (.iload_n 1, 1) := sorry
theorem dJ14_checkLength_1 : decode cJ14_checkLength 1 = .ok (.iload_n 0, 1) := sorry
theorem dJ14_checkLength_2 : decode cJ14_checkLength 2 = .ok (.if_icmp .ge 35, 3) := sorry
theorem dJ14_checkLength_5 : decode cJ14_checkLength 5 = .ok (.new 43, 3) := sorry
theorem dJ14_checkLength_8 : decode cJ14_checkLength 8 = .ok (.dup, 1) := sorry
theorem dJ14_checkLength_9 : decode cJ14_checkLength 9 = .ok (.new 45, 3) := sorry
theorem dJ14_checkLength_12 : decode cJ14_checkLength 12 = .ok (.dup, 1) := sorry
theorem dJ14_checkLength_13 : decode cJ14_checkLength 13 = .ok (.invokespecial 47, 3) := sorry
theorem dJ14_checkLength_16 : decode cJ14_checkLength 16 = .ok (.iload_n 0, 1) := sorry
theorem dJ14_checkLength_17 : decode cJ14_checkLength 17 = .ok (.invokevirtual 54, 3) := sorry
theorem dJ14_checkLength_20 : decode cJ14_checkLength 20 = .ok (.ldc_w 337, 3) := sorry
theorem dJ14_checkLength_23 : decode cJ14_checkLength 23 = .ok (.invokevirtual 50, 3) := sorry
theorem dJ14_checkLength_26 : decode cJ14_checkLength 26 = .ok (.iload_n 1, 1) := sorry
theorem dJ14_checkLength_27 : decode cJ14_checkLength 27 = .ok (.invokevirtual 54, 3) := sorry
theorem dJ14_checkLength_30 : decode cJ14_checkLength 30 = .ok (.invokevirtual 61, 3) := sorry
theorem dJ14_checkLength_33 : decode cJ14_checkLength 33 = .ok (.invokespecial 65, 3) := sorry
theorem dJ14_checkLength_36 : decode cJ14_checkLength 36 = .ok (.athrow, 1) := sorry
theorem dJ14_checkLength_37 : decode cJ14_checkLength 37 = .ok (.return_, 1) := sorry
abbrev cJ14_copyOf_2 : ByteArray := prog_49_method_119_code
def yJ14_copyOf_2 : MethodName := ⟨RJ14, "copyOf", "([Ljava/lang/Object;I)[Ljava/lang/Object;"⟩
def dkwJ14_copyOf_2_0 : List UInt8 := [42, 27, 42, 182, 0, 86, 184, 1, 44, 176]
abbrev dktJ14_copyOf_2_0 : List UInt8 := dkwJ14_copyOf_2_0 ++ []
theorem dksJ14_copyOf_2_0 : cJ14_copyOf_2.data.toList.drop 0 = dktJ14_copyOf_2_0 := sorry
theorem dJ14_copyOf_2_0 : decode cJ14_copyOf_2 0 = .ok (.aload_n 0, 1) := sorry
theorem dJ14_copyOf_2_1 : decode cJ14_copyOf_2 1 = .ok (.iload_n 1, 1) := sorry
theorem dJ14_copyOf_2_2 : decode cJ14_copyOf_2 2 = .ok (.aload_n 0, 1) := sorry
theorem dJ14_copyOf_2_3 : decode cJ14_copyOf_2 3 = .ok (.invokevirtual 86, 3) := sorry
theorem dJ14_copyOf_2_6 : decode cJ14_copyOf_2 6 = .ok (.invokestatic 300, 3) := sorry
theorem dJ14_copyOf_2_9 : decode cJ14_copyOf_2 9 = .ok (.areturn, 1) := sorry
abbrev cJ14_copyOf_3 : ByteArray := prog_49_method_120_code
def yJ14_copyOf_3 : MethodName := ⟨RJ14, "copyOf", "([Ljava/lang/Object;ILjava/lang/Class;)[Ljava/lang/Object;"⟩
def dkwJ14_copyOf_3_1 : List UInt8 := [78, 42, 3, 45, 3, 42, 190, 27, 184, 1, 48, 184, 0, 150, 45, 176]
abbrev dktJ14_copyOf_3_1 : List UInt8 := dkwJ14_copyOf_3_1 ++ []
def dkwJ14_copyOf_3_0 : List UInt8 := [44, 18, 110, 166, 0, 10, 27, 189, 0, 2, 167, 0, 14, 44, 182, 0, 90, 27, 184, 0, 95, 192, 0, 110]
abbrev dktJ14_copyOf_3_0 : List UInt8 := dkwJ14_copyOf_3_0 ++ dktJ14_copyOf_3_1
theorem dksJ14_copyOf_3_0 : cJ14_copyOf_3.data.toList.drop 0 = dktJ14_copyOf_3_0 := sorry
theorem dksJ14_copyOf_3_1 : cJ14_copyOf_3.data.toList.drop 24 = dktJ14_copyOf_3_1 := sorry
theorem dJ14_copyOf_3_0 : decode cJ14_copyOf_3 0 = .ok (.aload_n 2, 1) := sorry
theorem dJ14_copyOf_3_1 : decode cJ14_copyOf_3 1 = .ok (.ldc 110, 2) := sorry
theorem dJ14_copyOf_3_3 : decode cJ14_copyOf_3 3 = .ok (.if_acmp .ne 10, 3) := sorry
theorem dJ14_copyOf_3_6 : decode cJ14_copyOf_3 6 = .ok (.iload_n 1, 1) := sorry
theorem dJ14_copyOf_3_7 : decode cJ14_copyOf_3 7 = .ok (.anewarray 2, 3) := sorry
theorem dJ14_copyOf_3_10 : decode cJ14_copyOf_3 10 = .ok (.goto 14, 3) := sorry
theorem dJ14_copyOf_3_13 : decode cJ14_copyOf_3 13 = .ok (.aload_n 2, 1) := sorry
theorem dJ14_copyOf_3_14 : decode cJ14_copyOf_3 14 = .ok (.invokevirtual 90, 3) := sorry
theorem dJ14_copyOf_3_17 : decode cJ14_copyOf_3 17 = .ok (.iload_n 1, 1) := sorry
theorem dJ14_copyOf_3_18 : decode cJ14_copyOf_3 18 = .ok (.invokestatic 95, 3) := sorry
theorem dJ14_copyOf_3_21 : decode cJ14_copyOf_3 21 = .ok (.checkcast 110, 3) := sorry
theorem dJ14_copyOf_3_24 : decode cJ14_copyOf_3 24 = .ok (.astore_n 3, 1) := sorry
theorem dJ14_copyOf_3_25 : decode cJ14_copyOf_3 25 = .ok (.aload_n 0, 1) := sorry
theorem dJ14_copyOf_3_26 : decode cJ14_copyOf_3 26 = .ok (.iconst 0, 1) := sorry
theorem dJ14_copyOf_3_27 : decode cJ14_copyOf_3 27 = .ok (.aload_n 3, 1) := sorry
theorem dJ14_copyOf_3_28 : decode cJ14_copyOf_3 28 = .ok (.iconst 0, 1) := sorry
theorem dJ14_copyOf_3_29 : decode cJ14_copyOf_3 29 = .ok (.aload_n 0, 1) := sorry
theorem dJ14_copyOf_3_30 : decode cJ14_copyOf_3 30 = .ok (.arraylength, 1) := sorry
theorem dJ14_copyOf_3_31 : decode cJ14_copyOf_3 31 = .ok (.iload_n 1, 1) := sorry
theorem dJ14_copyOf_3_32 : decode cJ14_copyOf_3 32 = .ok (.invokestatic 304, 3) := sorry
theorem dJ14_copyOf_3_35 : decode cJ14_copyOf_3 35 = .ok (.invokestatic 150, 3) := sorry
theorem dJ14_copyOf_3_38 : decode cJ14_copyOf_3 38 = .ok (.aload_n 3, 1) := sorry
theorem dJ14_copyOf_3_39 : decode cJ14_copyOf_3 39 = .ok (.areturn, 1) := sorry
abbrev cJ14_fill : ByteArray := prog_49_method_110_code
def yJ14_fill : MethodName := ⟨RJ14, "fill", "([BIIB)V"⟩
def dkwJ14_fill_1 : List UInt8 := [167, 255, 242, 177]
abbrev dktJ14_fill_1 : List UInt8 := dkwJ14_fill_1 ++ []
def dkwJ14_fill_0 : List UInt8 := [42, 190, 27, 28, 184, 0, 13, 27, 54, 4, 21, 4, 28, 162, 0, 14, 42, 21, 4, 29, 84, 132, 4, 1]
abbrev dktJ14_fill_0 : List UInt8 := dkwJ14_fill_0 ++ dktJ14_fill_1
theorem dksJ14_fill_0 : cJ14_fill.data.toList.drop 0 = dktJ14_fill_0 := sorry
theorem dksJ14_fill_1 : cJ14_fill.data.toList.drop 24 = dktJ14_fill_1 := sorry
theorem dJ14_fill_0 : decode cJ14_fill 0 = .ok (.aload_n 0, 1) := sorry
theorem dJ14_fill_1 : decode cJ14_fill 1 = .ok (.arraylength, 1) := sorry
theorem dJ14_fill_2 : decode cJ14_fill 2 = .ok (.iload_n 1, 1) := sorry
theorem dJ14_fill_3 : decode cJ14_fill 3 = .ok (.iload_n 2, 1) := sorry
theorem dJ14_fill_4 : decode cJ14_fill 4 = .ok (.invokestatic 13, 3) := sorry
theorem dJ14_fill_7 : decode cJ14_fill 7 = .ok (.iload_n 1, 1) := sorry
theorem dJ14_fill_8 : decode cJ14_fill 8 = .ok (.istore 4, 2) := sorry
theorem dJ14_fill_10 : decode cJ14_fill 10 = .ok (.iload 4, 2) := sorry
theorem dJ14_fill_12 : decode cJ14_fill 12 = .ok (.iload_n 2, 1) := sorry
theorem dJ14_fill_13 : decode cJ14_fill 13 = .ok (.if_icmp .ge 14, 3) := sorry
theorem dJ14_fill_16 : decode cJ14_fill 16 = .ok (.aload_n 0, 1) := sorry
theorem dJ14_fill_17 : decode cJ14_fill 17 = .ok (.iload 4, 2) := sorry
theorem dJ14_fill_19 : decode cJ14_fill 19 = .ok (.iload_n 3, 1) := sorry
theorem dJ14_fill_20 : decode cJ14_fill 20 = .ok (.bastore, 1) := sorry
theorem dJ14_fill_21 : decode cJ14_fill 21 = .ok (.iinc 4 1, 3) := sorry
theorem dJ14_fill_24 : decode cJ14_fill 24 = .ok (.goto (-14), 3) := sorry
theorem dJ14_fill_27 : decode cJ14_fill 27 = .ok (.return_, 1) := sorry
abbrev cJ14_rangeCheck : ByteArray := prog_49_method_30_code
def yJ14_rangeCheck : MethodName := ⟨RJ14, "rangeCheck", "(III)V"⟩
def dkwJ14_rangeCheck_3 : List UInt8 := [183, 0, 70, 191, 177]
abbrev dktJ14_rangeCheck_3 : List UInt8 := dkwJ14_rangeCheck_3 ++ []
def dkwJ14_rangeCheck_2 : List UInt8 := [27, 156, 0, 12, 187, 0, 68, 89, 27, 183, 0, 70, 191, 28, 26, 164, 0, 12, 187, 0, 68, 89, 28]
abbrev dktJ14_rangeCheck_2 : List UInt8 := dkwJ14_rangeCheck_2 ++ dktJ14_rangeCheck_3
def dkwJ14_rangeCheck_1 : List UInt8 := [182, 0, 54, 18, 57, 182, 0, 50, 28, 182, 0, 54, 18, 59, 182, 0, 50, 182, 0, 61, 183, 0, 65, 191]
abbrev dktJ14_rangeCheck_1 : List UInt8 := dkwJ14_rangeCheck_1 ++ dktJ14_rangeCheck_2
def dkwJ14_rangeCheck_0 : List UInt8 := [27, 28, 164, 0, 44, 187, 0, 43, 89, 187, 0, 45, 89, 183, 0, 47, 18, 48, 182, 0, 50, 27]
abbrev dktJ14_rangeCheck_0 : List UInt8 := dkwJ14_rangeCheck_0 ++ dktJ14_rangeCheck_1
theorem dksJ14_rangeCheck_0 : cJ14_rangeCheck.data.toList.drop 0 = dktJ14_rangeCheck_0 := sorry
theorem dksJ14_rangeCheck_1 : cJ14_rangeCheck.data.toList.drop 22 = dktJ14_rangeCheck_1 := sorry
theorem dksJ14_rangeCheck_2 : cJ14_rangeCheck.data.toList.drop 46 = dktJ14_rangeCheck_2 := sorry
theorem dksJ14_rangeCheck_3 : cJ14_rangeCheck.data.toList.drop 69 = dktJ14_rangeCheck_3 := sorry
theorem dJ14_rangeCheck_0 : decode cJ14_rangeCheck 0 = .ok (.iload_n 1, 1) := sorry
theorem dJ14_rangeCheck_1 : decode cJ14_rangeCheck 1 = .ok (.iload_n 2, 1) := sorry
theorem dJ14_rangeCheck_2 : decode cJ14_rangeCheck 2 = .ok (.if_icmp .le 44, 3) := sorry
theorem dJ14_rangeCheck_5 : decode cJ14_rangeCheck 5 = .ok (.new 43, 3) := sorry
theorem dJ14_rangeCheck_8 : decode cJ14_rangeCheck 8 = .ok (.dup, 1) := sorry
theorem dJ14_rangeCheck_9 : decode cJ14_rangeCheck 9 = .ok (.new 45, 3) := sorry
theorem dJ14_rangeCheck_12 : decode cJ14_rangeCheck 12 = .ok (.dup, 1) := sorry
theorem dJ14_rangeCheck_13 : decode cJ14_rangeCheck 13 = .ok (.invokespecial 47, 3) := sorry
theorem dJ14_rangeCheck_16 : decode cJ14_rangeCheck 16 = .ok (.ldc 48, 2) := sorry
theorem dJ14_rangeCheck_18 : decode cJ14_rangeCheck 18 = .ok (.invokevirtual 50, 3) := sorry
theorem dJ14_rangeCheck_21 : decode cJ14_rangeCheck 21 = .ok (.iload_n 1, 1) := sorry
theorem dJ14_rangeCheck_22 : decode cJ14_rangeCheck 22 = .ok (.invokevirtual 54, 3) := sorry
theorem dJ14_rangeCheck_25 : decode cJ14_rangeCheck 25 = .ok (.ldc 57, 2) := sorry
theorem dJ14_rangeCheck_27 : decode cJ14_rangeCheck 27 = .ok (.invokevirtual 50, 3) := sorry
theorem dJ14_rangeCheck_30 : decode cJ14_rangeCheck 30 = .ok (.iload_n 2, 1) := sorry
theorem dJ14_rangeCheck_31 : decode cJ14_rangeCheck 31 = .ok (.invokevirtual 54, 3) := sorry
theorem dJ14_rangeCheck_34 : decode cJ14_rangeCheck 34 = .ok (.ldc 59, 2) := sorry
theorem dJ14_rangeCheck_36 : decode cJ14_rangeCheck 36 = .ok (.invokevirtual 50, 3) := sorry
theorem dJ14_rangeCheck_39 : decode cJ14_rangeCheck 39 = .ok (.invokevirtual 61, 3) := sorry
theorem dJ14_rangeCheck_42 : decode cJ14_rangeCheck 42 = .ok (.invokespecial 65, 3) := sorry
theorem dJ14_rangeCheck_45 : decode cJ14_rangeCheck 45 = .ok (.athrow, 1) := sorry
theorem dJ14_rangeCheck_46 : decode cJ14_rangeCheck 46 = .ok (.iload_n 1, 1) := sorry
theorem dJ14_rangeCheck_47 : decode cJ14_rangeCheck 47 = .ok (.ifCond .ge 12, 3) := sorry
theorem dJ14_rangeCheck_50 : decode cJ14_rangeCheck 50 = .ok (.new 68, 3) := sorry
theorem dJ14_rangeCheck_53 : decode cJ14_rangeCheck 53 = .ok (.dup, 1) := sorry
theorem dJ14_rangeCheck_54 : decode cJ14_rangeCheck 54 = .ok (.iload_n 1, 1) := sorry
theorem dJ14_rangeCheck_55 : decode cJ14_rangeCheck 55 = .ok (.invokespecial 70, 3) := sorry
theorem dJ14_rangeCheck_58 : decode cJ14_rangeCheck 58 = .ok (.athrow, 1) := sorry
theorem dJ14_rangeCheck_59 : decode cJ14_rangeCheck 59 = .ok (.iload_n 2, 1) := sorry
theorem dJ14_rangeCheck_60 : decode cJ14_rangeCheck 60 = .ok (.iload_n 0, 1) := sorry
theorem dJ14_rangeCheck_61 : decode cJ14_rangeCheck 61 = .ok (.if_icmp .le 12, 3) := sorry
theorem dJ14_rangeCheck_64 : decode cJ14_rangeCheck 64 = .ok (.new 68, 3) := sorry
theorem dJ14_rangeCheck_67 : decode cJ14_rangeCheck 67 = .ok (.dup, 1) := sorry
theorem dJ14_rangeCheck_68 : decode cJ14_rangeCheck 68 = .ok (.iload_n 2, 1) := sorry
theorem dJ14_rangeCheck_69 : decode cJ14_rangeCheck 69 = .ok (.invokespecial 70, 3) := sorry
theorem dJ14_rangeCheck_72 : decode cJ14_rangeCheck 72 = .ok (.athrow, 1) := sorry
theorem dJ14_rangeCheck_73 : decode cJ14_rangeCheck 73 = .ok (.return_, 1) := sorry
theorem q100 : (Jvm.Cond.initialized "java/util/Arrays") ∈ lw_all := sorry
theorem q290 : (Jvm.Cond.static ({ cls := "java/util/Arrays", name := "copyOf", desc := "([BI)[B" } : Jvm.MethodName)) ∈ lw_all := sorry
theorem q291 : (Jvm.Cond.code ({ cls := "java/util/Arrays", name := "copyOf", desc := "([BI)[B" } : Jvm.MethodName) prog_49_method_121_code (3 : Nat) (Option.some (Jvm.ClassFile.FieldType.array Jvm.ClassFile.FieldType.byte))) ∈ lw_all := sorry
theorem q292 : (Jvm.Cond.methodLink "java/util/Arrays" (310 : Nat) ({ cls := "[B", name := "clone", desc := "()Ljava/lang/Object;" } : Jvm.MethodName)) ∈ lw_all := sorry
theorem q298 : (Jvm.Cond.classLink "java/util/Arrays" (311 : Nat) "[B") ∈ lw_all := sorry
theorem q299 : (Jvm.Cond.methodLink "java/util/Arrays" (304 : Nat) ({ cls := "java/lang/Math", name := "min", desc := "(II)I" } : Jvm.MethodName)) ∈ lw_all := sorry
theorem q302 : (Jvm.Cond.methodLink "java/util/Arrays" (150 : Nat) ({ cls := "java/lang/System", name := "arraycopy", desc := "(Ljava/lang/Object;ILjava/lang/Object;II)V" } : Jvm.MethodName)) ∈ lw_all := sorry
theorem q432 : (Jvm.Cond.static ({ cls := "java/util/Arrays", name := "copyOfRange", desc := "([BII)[B" } : Jvm.MethodName)) ∈ lw_all := sorry
theorem q433 : (Jvm.Cond.code ({ cls := "java/util/Arrays", name := "copyOfRange", desc := "([BII)[B" } : Jvm.MethodName) prog_49_method_132_code (3 : Nat) (Option.some (Jvm.ClassFile.FieldType.array Jvm.ClassFile.FieldType.byte))) ∈ lw_all := sorry
theorem q434 : (Jvm.Cond.methodLink "java/util/Arrays" (339 : Nat) ({ cls := "java/util/Arrays", name := "copyOfRangeByte", desc := "([BII)[B" } : Jvm.MethodName)) ∈ lw_all := sorry
theorem q435 : (Jvm.Cond.static ({ cls := "java/util/Arrays", name := "copyOfRangeByte", desc := "([BII)[B" } : Jvm.MethodName)) ∈ lw_all := sorry
theorem q436 : (Jvm.Cond.code ({ cls := "java/util/Arrays", name := "copyOfRangeByte", desc := "([BII)[B" } : Jvm.MethodName) prog_49_method_133_code (5 : Nat) (Option.some (Jvm.ClassFile.FieldType.array Jvm.ClassFile.FieldType.byte))) ∈ lw_all := sorry
theorem q437 : (Jvm.Cond.methodLink "java/util/Arrays" (343 : Nat) ({ cls := "java/util/Arrays", name := "checkLength", desc := "(II)V" } : Jvm.MethodName)) ∈ lw_all := sorry
theorem q438 : (Jvm.Cond.static ({ cls := "java/util/Arrays", name := "checkLength", desc := "(II)V" } : Jvm.MethodName)) ∈ lw_all := sorry
theorem q439 : (Jvm.Cond.code ({ cls := "java/util/Arrays", name := "checkLength", desc := "(II)V" } : Jvm.MethodName) prog_49_method_131_code (2 : Nat) (Option.none : Option Jvm.ClassFile.FieldType)) ∈ lw_all := sorry
theorem q440 : (Jvm.Cond.classLink "java/util/Arrays" (43 : Nat) "java/lang/IllegalArgumentException") ∈ lw_all := sorry
theorem q441 : (Jvm.Cond.classLink "java/util/Arrays" (45 : Nat) "java/lang/StringBuilder") ∈ lw_all := sorry
theorem q442 : (Jvm.Cond.methodLink "java/util/Arrays" (47 : Nat) ({ cls := "java/lang/StringBuilder", name := "<init>", desc := "()V" } : Jvm.MethodName)) ∈ lw_all := sorry
theorem q443 : (Jvm.Cond.methodLink "java/util/Arrays" (54 : Nat) ({ cls := "java/lang/StringBuilder", name := "append", desc := "(I)Ljava/lang/StringBuilder;" } : Jvm.MethodName)) ∈ lw_all := sorry
theorem q444 : (Jvm.Cond.stringRef "java/util/Arrays" (337 : Nat) " > ") ∈ lw_tbl := sorry
theorem q445 : (Jvm.Cond.methodLink "java/util/Arrays" (50 : Nat) ({ cls := "java/lang/StringBuilder", name := "append", desc := "(Ljava/lang/String;)Ljava/lang/StringBuilder;" } : Jvm.MethodName)) ∈ lw_all := sorry
theorem q446 : (Jvm.Cond.methodLink "java/util/Arrays" (61 : Nat) ({ cls := "java/lang/StringBuilder", name := "toString", desc := "()Ljava/lang/String;" } : Jvm.MethodName)) ∈ lw_all := sorry
theorem q447 : (Jvm.Cond.methodLink "java/util/Arrays" (65 : Nat) ({ cls := "java/lang/IllegalArgumentException", name := "<init>", desc := "(Ljava/lang/String;)V" } : Jvm.MethodName)) ∈ lw_all := sorry
theorem q1281 : (Jvm.Cond.static ({ cls := "java/util/Arrays", name := "copyOf", desc := "([Ljava/lang/Object;I)[Ljava/lang/Object;" } : Jvm.MethodName)) ∈ lw_all := sorry
theorem q1282 : (Jvm.Cond.code ({ cls := "java/util/Arrays", name := "copyOf", desc := "([Ljava/lang/Object;I)[Ljava/lang/Object;" } : Jvm.MethodName) prog_49_method_119_code (2 : Nat) (Option.some (Jvm.ClassFile.FieldType.array (Jvm.ClassFile.FieldType.object "java/lang/Object")))) ∈ lw_all := sorry
theorem q1283 : (Jvm.Cond.methodLink "java/util/Arrays" (86 : Nat) ({ cls := "java/lang/Object", name := "getClass", desc := "()Ljava/lang/Class;" } : Jvm.MethodName)) ∈ lw_all := sorry
theorem q1314 : (Jvm.Cond.methodLink "java/util/Arrays" (300 : Nat) ({ cls := "java/util/Arrays", name := "copyOf", desc := "([Ljava/lang/Object;ILjava/lang/Class;)[Ljava/lang/Object;" } : Jvm.MethodName)) ∈ lw_all := sorry
theorem q1315 : (Jvm.Cond.static ({ cls := "java/util/Arrays", name := "copyOf", desc := "([Ljava/lang/Object;ILjava/lang/Class;)[Ljava/lang/Object;" } : Jvm.MethodName)) ∈ lw_all := sorry
theorem q1316 : (Jvm.Cond.code ({ cls := "java/util/Arrays", name := "copyOf", desc := "([Ljava/lang/Object;ILjava/lang/Class;)[Ljava/lang/Object;" } : Jvm.MethodName) prog_49_method_120_code (4 : Nat) (Option.some (Jvm.ClassFile.FieldType.array (Jvm.ClassFile.FieldType.object "java/lang/Object")))) ∈ lw_all := sorry
theorem q1317 : (Jvm.Cond.classLink "java/util/Arrays" (110 : Nat) "[Ljava/lang/Object;") ∈ lw_all := sorry
theorem q1318 : (Jvm.Cond.classLink "java/util/Arrays" (2 : Nat) "java/lang/Object") ∈ lw_all := sorry
theorem q1988 : (Jvm.Cond.static ({ cls := "java/util/Arrays", name := "fill", desc := "([BIIB)V" } : Jvm.MethodName)) ∈ lw_all := sorry
theorem q1989 : (Jvm.Cond.code ({ cls := "java/util/Arrays", name := "fill", desc := "([BIIB)V" } : Jvm.MethodName) prog_49_method_110_code (5 : Nat) (Option.none : Option Jvm.ClassFile.FieldType)) ∈ lw_all := sorry
theorem q1990 : (Jvm.Cond.methodLink "java/util/Arrays" (13 : Nat) ({ cls := "java/util/Arrays", name := "rangeCheck", desc := "(III)V" } : Jvm.MethodName)) ∈ lw_all := sorry
theorem q1991 : (Jvm.Cond.static ({ cls := "java/util/Arrays", name := "rangeCheck", desc := "(III)V" } : Jvm.MethodName)) ∈ lw_all := sorry
theorem q1992 : (Jvm.Cond.code ({ cls := "java/util/Arrays", name := "rangeCheck", desc := "(III)V" } : Jvm.MethodName) prog_49_method_30_code (3 : Nat) (Option.none : Option Jvm.ClassFile.FieldType)) ∈ lw_all := sorry
theorem q1993 : (Jvm.Cond.stringRef "java/util/Arrays" (48 : Nat) "fromIndex(") ∈ lw_tbl := sorry
theorem q1994 : (Jvm.Cond.stringRef "java/util/Arrays" (57 : Nat) ") > toIndex(") ∈ lw_tbl := sorry
theorem q1995 : (Jvm.Cond.stringRef "java/util/Arrays" (59 : Nat) ")") ∈ lw_tbl := sorry
theorem q1996 : (Jvm.Cond.classLink "java/util/Arrays" (68 : Nat) "java/lang/ArrayIndexOutOfBoundsException") ∈ lw_all := sorry
theorem q1997 : (Jvm.Cond.methodLink "java/util/Arrays" (70 : Nat) ({ cls := "java/lang/ArrayIndexOutOfBoundsException", name := "<init>", desc := "(I)V" } : Jvm.MethodName)) ∈ lw_all := sorry
/-! jdk/internal/util/Preconditions -/
set_option maxRecDepth 100000
def RJ15 : String := "jdk/internal/util/Preconditions"
abbrev cJ15_checkFromToIndex : ByteArray := prog_61_method_12_code
def yJ15_checkFromToIndex : MethodName := ⟨RJ15, "checkFromToIndex", "(IIILjava/util/function/BiFunction;)I"⟩
def dkwJ15_checkFromToIndex_0 : List UInt8 := [26, 155, 0, 13, 26, 27, 163, 0, 8, 27, 28, 164, 0, 11, 45, 26, 27, 28, 184, 0, 99, 191, 26, 172]
abbrev dktJ15_checkFromToIndex_0 : List UInt8 := dkwJ15_checkFromToIndex_0 ++ []
theorem dksJ15_checkFromToIndex_0 : cJ15_checkFromToIndex.data.toList.drop 0 = dktJ15_checkFromToIndex_0 := sorry
theorem dJ15_checkFromToIndex_0 : decode cJ15_checkFromToIndex 0 = .ok (.iload_n 0, 1) := sorry
theorem dJ15_checkFromToIndex_1 : decode cJ15_checkFromToIndex 1 = .ok (.ifCond .lt 13, 3) := sorry
theorem dJ15_checkFromToIndex_4 : decode cJ15_checkFromToIndex 4 = .ok (.iload_n 0, 1) := sorry
theorem dJ15_checkFromToIndex_5 : decode cJ15_checkFromToIndex 5 = .ok (.iload_n 1, 1) := sorry
theorem dJ15_checkFromToIndex_6 : decode cJ15_checkFromToIndex 6 = .ok (.if_icmp .gt 8, 3) := sorry
theorem dJ15_checkFromToIndex_9 : decode cJ15_checkFromToIndex 9 = .ok (.iload_n 1, 1) := sorry
theorem dJ15_checkFromToIndex_10 : decode cJ15_checkFromToIndex 10 = .ok (.iload_n 2, 1) := sorry
theorem dJ15_checkFromToIndex_11 : decode cJ15_checkFromToIndex 11 = .ok (.if_icmp .le 11, 3) := sorry
theorem dJ15_checkFromToIndex_14 : decode cJ15_checkFromToIndex 14 = .ok (.aload_n 3, 1) := sorry
theorem dJ15_checkFromToIndex_15 : decode cJ15_checkFromToIndex 15 = .ok (.iload_n 0, 1) := sorry
theorem dJ15_checkFromToIndex_16 : decode cJ15_checkFromToIndex 16 = .ok (.iload_n 1, 1) := sorry
theorem dJ15_checkFromToIndex_17 : decode cJ15_checkFromToIndex 17 = .ok (.iload_n 2, 1) := sorry
theorem dJ15_checkFromToIndex_18 : decode cJ15_checkFromToIndex 18 = .ok (.invokestatic 99, 3) := sorry
theorem dJ15_checkFromToIndex_21 : decode cJ15_checkFromToIndex 21 = .ok (.athrow, 1) := sorry
theorem dJ15_checkFromToIndex_22 : decode cJ15_checkFromToIndex 22 = .ok (.iload_n 0, 1) := sorry
theorem dJ15_checkFromToIndex_23 : decode cJ15_checkFromToIndex 23 = .ok (.ireturn, 1) := sorry
abbrev cJ15_checkFromIndexSize : ByteArray := prog_61_method_13_code
def yJ15_checkFromIndexSize : MethodName := ⟨RJ15, "checkFromIndexSize", "(IIILjava/util/function/BiFunction;)I"⟩
def dkwJ15_checkFromIndexSize_1 : List UInt8 := [172]
abbrev dktJ15_checkFromIndexSize_1 : List UInt8 := dkwJ15_checkFromIndexSize_1 ++ []
def dkwJ15_checkFromIndexSize_0 : List UInt8 := [28, 26, 128, 27, 128, 155, 0, 10, 27, 28, 26, 100, 164, 0, 11, 45, 26, 27, 28, 184, 0, 103, 191, 26]
abbrev dktJ15_checkFromIndexSize_0 : List UInt8 := dkwJ15_checkFromIndexSize_0 ++ dktJ15_checkFromIndexSize_1
theorem dksJ15_checkFromIndexSize_0 : cJ15_checkFromIndexSize.data.toList.drop 0 = dktJ15_checkFromIndexSize_0 := sorry
theorem dksJ15_checkFromIndexSize_1 : cJ15_checkFromIndexSize.data.toList.drop 24 = dktJ15_checkFromIndexSize_1 := sorry
theorem dJ15_checkFromIndexSize_0 : decode cJ15_checkFromIndexSize 0 = .ok (.iload_n 2, 1) := sorry
theorem dJ15_checkFromIndexSize_1 : decode cJ15_checkFromIndexSize 1 = .ok (.iload_n 0, 1) := sorry
theorem dJ15_checkFromIndexSize_2 : decode cJ15_checkFromIndexSize 2 = .ok (.ior, 1) := sorry
theorem dJ15_checkFromIndexSize_3 : decode cJ15_checkFromIndexSize 3 = .ok (.iload_n 1, 1) := sorry
theorem dJ15_checkFromIndexSize_4 : decode cJ15_checkFromIndexSize 4 = .ok (.ior, 1) := sorry
theorem dJ15_checkFromIndexSize_5 : decode cJ15_checkFromIndexSize 5 = .ok (.ifCond .lt 10, 3) := sorry
theorem dJ15_checkFromIndexSize_8 : decode cJ15_checkFromIndexSize 8 = .ok (.iload_n 1, 1) := sorry
theorem dJ15_checkFromIndexSize_9 : decode cJ15_checkFromIndexSize 9 = .ok (.iload_n 2, 1) := sorry
theorem dJ15_checkFromIndexSize_10 : decode cJ15_checkFromIndexSize 10 = .ok (.iload_n 0, 1) := sorry
theorem dJ15_checkFromIndexSize_11 : decode cJ15_checkFromIndexSize 11 = .ok (.isub, 1) := sorry
theorem dJ15_checkFromIndexSize_12 : decode cJ15_checkFromIndexSize 12 = .ok (.if_icmp .le 11, 3) := sorry
theorem dJ15_checkFromIndexSize_15 : decode cJ15_checkFromIndexSize 15 = .ok (.aload_n 3, 1) := sorry
theorem dJ15_checkFromIndexSize_16 : decode cJ15_checkFromIndexSize 16 = .ok (.iload_n 0, 1) := sorry
theorem dJ15_checkFromIndexSize_17 : decode cJ15_checkFromIndexSize 17 = .ok (.iload_n 1, 1) := sorry
theorem dJ15_checkFromIndexSize_18 : decode cJ15_checkFromIndexSize 18 = .ok (.iload_n 2, 1) := sorry
theorem dJ15_checkFromIndexSize_19 : decode cJ15_checkFromIndexSize 19 = .ok (.invokestatic 103, 3) := sorry
theorem dJ15_checkFromIndexSize_22 : decode cJ15_checkFromIndexSize 22 = .ok (.athrow, 1) := sorry
theorem dJ15_checkFromIndexSize_23 : decode cJ15_checkFromIndexSize 23 = .ok (.iload_n 0, 1) := sorry
theorem dJ15_checkFromIndexSize_24 : decode cJ15_checkFromIndexSize 24 = .ok (.ireturn, 1) := sorry
abbrev cJ15_checkIndex : ByteArray := prog_61_method_11_code
def yJ15_checkIndex : MethodName := ⟨RJ15, "checkIndex", "(IILjava/util/function/BiFunction;)I"⟩
def dkwJ15_checkIndex_0 : List UInt8 := [26, 155, 0, 8, 26, 27, 161, 0, 10, 44, 26, 27, 184, 0, 95, 191, 26, 172]
abbrev dktJ15_checkIndex_0 : List UInt8 := dkwJ15_checkIndex_0 ++ []
theorem dksJ15_checkIndex_0 : cJ15_checkIndex.data.toList.drop 0 = dktJ15_checkIndex_0 := sorry
theorem dJ15_checkIndex_0 : decode cJ15_checkIndex 0 = .ok (.iload_n 0, 1) := sorry
theorem dJ15_checkIndex_1 : decode cJ15_checkIndex 1 = .ok (.ifCond .lt 8, 3) := sorry
theorem dJ15_checkIndex_4 : decode cJ15_checkIndex 4 = .ok (.iload_n 0, 1) := sorry
theorem dJ15_checkIndex_5 : decode cJ15_checkIndex 5 = .ok (.iload_n 1, 1) := sorry
theorem dJ15_checkIndex_6 : decode cJ15_checkIndex 6 = .ok (.if_icmp .lt 10, 3) := sorry
theorem dJ15_checkIndex_9 : decode cJ15_checkIndex 9 = .ok (.aload_n 2, 1) := sorry
theorem dJ15_checkIndex_10 : decode cJ15_checkIndex 10 = .ok (.iload_n 0, 1) := sorry
theorem dJ15_checkIndex_11 : decode cJ15_checkIndex 11 = .ok (.iload_n 1, 1) := sorry
theorem dJ15_checkIndex_12 : decode cJ15_checkIndex 12 = .ok (.invokestatic 95, 3) := sorry
theorem dJ15_checkIndex_15 : decode cJ15_checkIndex 15 = .ok (.athrow, 1) := sorry
theorem dJ15_checkIndex_16 : decode cJ15_checkIndex 16 = .ok (.iload_n 0, 1) := sorry
theorem dJ15_checkIndex_17 : decode cJ15_checkIndex 17 = .ok (.ireturn, 1) := sorry
theorem q102 : (Jvm.Cond.initialized "jdk/internal/util/Preconditions") ∈ lw_all := sorry
theorem q323 : (Jvm.Cond.laysStatic "jdk/internal/util/Preconditions" "SIOOBE_FORMATTER" "Ljava/util/function/BiFunction;") ∈ lw_tbl := sorry
theorem q325 : (Jvm.Cond.static ({ cls := "jdk/internal/util/Preconditions", name := "checkFromToIndex", desc := "(IIILjava/util/function/BiFunction;)I" } : Jvm.MethodName)) ∈ lw_all := sorry
theorem q326 : (Jvm.Cond.code ({ cls := "jdk/internal/util/Preconditions", name := "checkFromToIndex", desc := "(IIILjava/util/function/BiFunction;)I" } : Jvm.MethodName) prog_61_method_12_code (4 : Nat) (Option.some Jvm.ClassFile.FieldType.int)) ∈ lw_all := sorry
theorem q371 : (Jvm.Cond.static ({ cls := "jdk/internal/util/Preconditions", name := "checkFromIndexSize", desc := "(IIILjava/util/function/BiFunction;)I" } : Jvm.MethodName)) ∈ lw_all := sorry
theorem q372 : (Jvm.Cond.code ({ cls := "jdk/internal/util/Preconditions", name := "checkFromIndexSize", desc := "(IIILjava/util/function/BiFunction;)I" } : Jvm.MethodName) prog_61_method_13_code (4 : Nat) (Option.some Jvm.ClassFile.FieldType.int)) ∈ lw_all := sorry
theorem q713 : (Jvm.Cond.static ({ cls := "jdk/internal/util/Preconditions", name := "checkIndex", desc := "(IILjava/util/function/BiFunction;)I" } : Jvm.MethodName)) ∈ lw_all := sorry
theorem q714 : (Jvm.Cond.code ({ cls := "jdk/internal/util/Preconditions", name := "checkIndex", desc := "(IILjava/util/function/BiFunction;)I" } : Jvm.MethodName) prog_61_method_11_code (3 : Nat) (Option.some Jvm.ClassFile.FieldType.int)) ∈ lw_all := sorry
/-! java/lang/StringLatin1 -/
set_option maxRecDepth 100000
def RJ16 : String := "java/lang/StringLatin1"
abbrev cJ16_inflate : ByteArray := prog_37_method_50_code
def yJ16_inflate : MethodName := ⟨RJ16, "inflate", "([BI[BII)V"⟩
def dkwJ16_inflate_0 : List UInt8 := [42, 27, 44, 29, 21, 4, 184, 0, 240, 177]
abbrev dktJ16_inflate_0 : List UInt8 := dkwJ16_inflate_0 ++ []
theorem dksJ16_inflate_0 : cJ16_inflate.data.toList.drop 0 = dktJ16_inflate_0 := sorry
theorem dJ16_inflate_0 : decode cJ16_inflate 0 = .ok (.aload_n 0, 1) := sorry
theorem dJ16_inflate_1 : decode cJ16_inflate 1 = .ok (.iload_n 1, 1) := sorry
theorem dJ16_inflate_2 : decode cJ16_inflate 2 = .ok (.aload_n 2, 1) := sorry
theorem dJ16_inflate_3 : decode cJ16_inflate 3 = .ok (.iload_n 3, 1) := sorry
theorem dJ16_inflate_4 : decode cJ16_inflate 4 = .ok (.iload 4, 2) := sorry
theorem dJ16_inflate_6 : decode cJ16_inflate 6 = .ok (.invokestatic 240, 3) := sorry
theorem dJ16_inflate_9 : decode cJ16_inflate 9 = .ok (.return_, 1) := sorry
abbrev cJ16_canEncode : ByteArray := prog_37_method_3_code
def yJ16_canEncode : MethodName := ⟨RJ16, "canEncode", "(C)Z"⟩
def dkwJ16_canEncode_0 : List UInt8 := [26, 17, 0, 255, 163, 0, 7, 4, 167, 0, 4, 3, 172]
abbrev dktJ16_canEncode_0 : List UInt8 := dkwJ16_canEncode_0 ++ []
theorem dksJ16_canEncode_0 : cJ16_canEncode.data.toList.drop 0 = dktJ16_canEncode_0 := sorry
theorem dJ16_canEncode_0 : decode cJ16_canEncode 0 = .ok (.iload_n 0, 1) := sorry
theorem dJ16_canEncode_1 : decode cJ16_canEncode 1 = .ok (.sipush 255, 3) := sorry
theorem dJ16_canEncode_4 : decode cJ16_canEncode 4 = .ok (.if_icmp .gt 7, 3) := sorry
theorem dJ16_canEncode_7 : decode cJ16_canEncode 7 = .ok (.iconst 1, 1) := sorry
theorem dJ16_canEncode_8 : decode cJ16_canEncode 8 = .ok (.goto 4, 3) := sorry
theorem dJ16_canEncode_11 : decode cJ16_canEncode 11 = .ok (.iconst 0, 1) := sorry
theorem dJ16_canEncode_12 : decode cJ16_canEncode 12 = .ok (.ireturn, 1) := sorry
abbrev cJ16_hashCode : ByteArray := prog_37_method_21_code
def yJ16_hashCode : MethodName := ⟨RJ16, "hashCode", "([B)I"⟩
def dkwJ16_hashCode_2 : List UInt8 := [3, 167, 0, 22, 42, 3, 51, 17, 0, 255, 126, 167, 0, 12, 42, 3, 42, 190, 3, 7, 184, 0, 84, 172]
abbrev dktJ16_hashCode_2 : List UInt8 := dkwJ16_hashCode_2 ++ []
def dkwJ16_hashCode_1 : List UInt8 := [171, 0, 0, 0, 0, 40, 0, 0, 0, 2, 0, 0, 0, 0, 0, 0, 0, 26, 0, 0, 0, 1, 0, 0, 0, 30]
abbrev dktJ16_hashCode_1 : List UInt8 := dkwJ16_hashCode_1 ++ dktJ16_hashCode_2
def dkwJ16_hashCode_0 : List UInt8 := [42, 190]
abbrev dktJ16_hashCode_0 : List UInt8 := dkwJ16_hashCode_0 ++ dktJ16_hashCode_1
theorem dksJ16_hashCode_0 : cJ16_hashCode.data.toList.drop 0 = dktJ16_hashCode_0 := sorry
theorem dksJ16_hashCode_1 : cJ16_hashCode.data.toList.drop 2 = dktJ16_hashCode_1 := sorry
theorem dksJ16_hashCode_2 : cJ16_hashCode.data.toList.drop 28 = dktJ16_hashCode_2 := sorry
theorem dJ16_hashCode_0 : decode cJ16_hashCode 0 = .ok (.aload_n 0, 1) := sorry
theorem dJ16_hashCode_1 : decode cJ16_hashCode 1 = .ok (.arraylength, 1) := sorry
theorem dJ16_hashCode_2 : decode cJ16_hashCode 2 = .ok (.lookupswitch 40 #[(0, 26), (1, 30)], 26) := sorry
theorem dJ16_hashCode_28 : decode cJ16_hashCode 28 = .ok (.iconst 0, 1) := sorry
theorem dJ16_hashCode_29 : decode cJ16_hashCode 29 = .ok (.goto 22, 3) := sorry
theorem dJ16_hashCode_32 : decode cJ16_hashCode 32 = .ok (.aload_n 0, 1) := sorry
theorem dJ16_hashCode_33 : decode cJ16_hashCode 33 = .ok (.iconst 0, 1) := sorry
theorem dJ16_hashCode_34 : decode cJ16_hashCode 34 = .ok (.baload, 1) := sorry
theorem dJ16_hashCode_35 : decode cJ16_hashCode 35 = .ok (.sipush 255, 3) := sorry
theorem dJ16_hashCode_38 : decode cJ16_hashCode 38 = .ok (.iand, 1) := sorry
theorem dJ16_hashCode_39 : decode cJ16_hashCode 39 = .ok (.goto 12, 3) := sorry
theorem dJ16_hashCode_42 : decode cJ16_hashCode 42 = .ok (.aload_n 0, 1) := sorry
theorem dJ16_hashCode_43 : decode cJ16_hashCode 43 = .ok (.iconst 0, 1) := sorry
theorem dJ16_hashCode_44 : decode cJ16_hashCode 44 = .ok (.aload_n 0, 1) := sorry
theorem dJ16_hashCode_45 : decode cJ16_hashCode 45 = .ok (.arraylength, 1) := sorry
theorem dJ16_hashCode_46 : decode cJ16_hashCode 46 = .ok (.iconst 0, 1) := sorry
theorem dJ16_hashCode_47 : decode cJ16_hashCode 47 = .ok (.iconst 4, 1) := sorry
theorem dJ16_hashCode_48 : decode cJ16_hashCode 48 = .ok (.invokestatic 84, 3) := sorry
theorem dJ16_hashCode_51 : decode cJ16_hashCode 51 = .ok (.ireturn, 1) := sorry
abbrev cJ16_equals : ByteArray := prog_37_method_13_code
def yJ16_equals : MethodName := ⟨RJ16, "equals", "([B[B)Z"⟩
def dkwJ16_equals_1 : List UInt8 := [3, 172, 132, 2, 1, 167, 255, 236, 4, 172, 3, 172]
abbrev dktJ16_equals_1 : List UInt8 := dkwJ16_equals_1 ++ []
def dkwJ16_equals_0 : List UInt8 := [42, 190, 43, 190, 160, 0, 30, 3, 61, 28, 42, 190, 162, 0, 20, 42, 28, 51, 43, 28, 51, 159, 0, 5]
abbrev dktJ16_equals_0 : List UInt8 := dkwJ16_equals_0 ++ dktJ16_equals_1
theorem dksJ16_equals_0 : cJ16_equals.data.toList.drop 0 = dktJ16_equals_0 := sorry
theorem dksJ16_equals_1 : cJ16_equals.data.toList.drop 24 = dktJ16_equals_1 := sorry
theorem dJ16_equals_0 : decode cJ16_equals 0 = .ok (.aload_n 0, 1) := sorry
theorem dJ16_equals_1 : decode cJ16_equals 1 = .ok (.arraylength, 1) := sorry
theorem dJ16_equals_2 : decode cJ16_equals 2 = .ok (.aload_n 1, 1) := sorry
theorem dJ16_equals_3 : decode cJ16_equals 3 = .ok (.arraylength, 1) := sorry
theorem dJ16_equals_4 : decode cJ16_equals 4 = .ok (.if_icmp .ne 30, 3) := sorry
theorem dJ16_equals_7 : decode cJ16_equals 7 = .ok (.iconst 0, 1) := sorry
theorem dJ16_equals_8 : decode cJ16_equals 8 = .ok (.istore_n 2, 1) := sorry
theorem dJ16_equals_9 : decode cJ16_equals 9 = .ok (.iload_n 2, 1) := sorry
theorem dJ16_equals_10 : decode cJ16_equals 10 = .ok (.aload_n 0, 1) := sorry
theorem dJ16_equals_11 : decode cJ16_equals 11 = .ok (.arraylength, 1) := sorry
theorem dJ16_equals_12 : decode cJ16_equals 12 = .ok (.if_icmp .ge 20, 3) := sorry
theorem dJ16_equals_15 : decode cJ16_equals 15 = .ok (.aload_n 0, 1) := sorry
theorem dJ16_equals_16 : decode cJ16_equals 16 = .ok (.iload_n 2, 1) := sorry
theorem dJ16_equals_17 : decode cJ16_equals 17 = .ok (.baload, 1) := sorry
theorem dJ16_equals_18 : decode cJ16_equals 18 = .ok (.aload_n 1, 1) := sorry
theorem dJ16_equals_19 : decode cJ16_equals 19 = .ok (.iload_n 2, 1) := sorry
theorem dJ16_equals_20 : decode cJ16_equals 20 = .ok (.baload, 1) := sorry
theorem dJ16_equals_21 : decode cJ16_equals 21 = .ok (.if_icmp .eq 5, 3) := sorry
theorem dJ16_equals_24 : decode cJ16_equals 24 = .ok (.iconst 0, 1) := sorry
theorem dJ16_equals_25 : decode cJ16_equals 25 = .ok (.ireturn, 1) := sorry
theorem dJ16_equals_26 : decode cJ16_equals 26 = .ok (.iinc 2 1, 3) := sorry
theorem dJ16_equals_29 : decode cJ16_equals 29 = .ok (.goto (-20), 3) := sorry
theorem dJ16_equals_32 : decode cJ16_equals 32 = .ok (.iconst 1, 1) := sorry
theorem dJ16_equals_33 : decode cJ16_equals 33 = .ok (.ireturn, 1) := sorry
theorem dJ16_equals_34 : decode cJ16_equals 34 = .ok (.iconst 0, 1) := sorry
theorem dJ16_equals_35 : decode cJ16_equals 35 = .ok (.ireturn, 1) := sorry
abbrev cJ16_fillNull : ByteArray := prog_37_method_48_code
def yJ16_fillNull : MethodName := ⟨RJ16, "fillNull", "([BII)V"⟩
def dkwJ16_fillNull_0 : List UInt8 := [42, 27, 28, 3, 184, 0, 236, 177]
abbrev dktJ16_fillNull_0 : List UInt8 := dkwJ16_fillNull_0 ++ []
theorem dksJ16_fillNull_0 : cJ16_fillNull.data.toList.drop 0 = dktJ16_fillNull_0 := sorry
theorem dJ16_fillNull_0 : decode cJ16_fillNull 0 = .ok (.aload_n 0, 1) := sorry
theorem dJ16_fillNull_1 : decode cJ16_fillNull 1 = .ok (.iload_n 1, 1) := sorry
theorem dJ16_fillNull_2 : decode cJ16_fillNull 2 = .ok (.iload_n 2, 1) := sorry
theorem dJ16_fillNull_3 : decode cJ16_fillNull 3 = .ok (.iconst 0, 1) := sorry
theorem dJ16_fillNull_4 : decode cJ16_fillNull 4 = .ok (.invokestatic 236, 3) := sorry
theorem dJ16_fillNull_7 : decode cJ16_fillNull 7 = .ok (.return_, 1) := sorry
abbrev cJ16_charAt : ByteArray := prog_37_method_2_code
def yJ16_charAt : MethodName := ⟨RJ16, "charAt", "([BI)C"⟩
def dkwJ16_charAt_0 : List UInt8 := [27, 42, 190, 184, 0, 9, 42, 27, 51, 17, 0, 255, 126, 146, 172]
abbrev dktJ16_charAt_0 : List UInt8 := dkwJ16_charAt_0 ++ []
theorem dksJ16_charAt_0 : cJ16_charAt.data.toList.drop 0 = dktJ16_charAt_0 := sorry
theorem dJ16_charAt_0 : decode cJ16_charAt 0 = .ok (.iload_n 1, 1) := sorry
theorem dJ16_charAt_1 : decode cJ16_charAt 1 = .ok (.aload_n 0, 1) := sorry
theorem dJ16_charAt_2 : decode cJ16_charAt 2 = .ok (.arraylength, 1) := sorry
theorem dJ16_charAt_3 : decode cJ16_charAt 3 = .ok (.invokestatic 9, 3) := sorry
theorem dJ16_charAt_6 : decode cJ16_charAt 6 = .ok (.aload_n 0, 1) := sorry
theorem dJ16_charAt_7 : decode cJ16_charAt 7 = .ok (.iload_n 1, 1) := sorry
theorem dJ16_charAt_8 : decode cJ16_charAt 8 = .ok (.baload, 1) := sorry
theorem dJ16_charAt_9 : decode cJ16_charAt 9 = .ok (.sipush 255, 3) := sorry
theorem dJ16_charAt_12 : decode cJ16_charAt 12 = .ok (.iand, 1) := sorry
theorem dJ16_charAt_13 : decode cJ16_charAt 13 = .ok (.i2c, 1) := sorry
theorem dJ16_charAt_14 : decode cJ16_charAt 14 = .ok (.ireturn, 1) := sorry
theorem q103 : (Jvm.Cond.initialized "java/lang/StringLatin1") ∈ lw_all := sorry
theorem q359 : (Jvm.Cond.static ({ cls := "java/lang/StringLatin1", name := "inflate", desc := "([BI[BII)V" } : Jvm.MethodName)) ∈ lw_all := sorry
theorem q360 : (Jvm.Cond.code ({ cls := "java/lang/StringLatin1", name := "inflate", desc := "([BI[BII)V" } : Jvm.MethodName) prog_37_method_50_code (5 : Nat) (Option.none : Option Jvm.ClassFile.FieldType)) ∈ lw_all := sorry
theorem q361 : (Jvm.Cond.methodLink "java/lang/StringLatin1" (240 : Nat) ({ cls := "java/lang/StringUTF16", name := "inflate", desc := "([BI[BII)V" } : Jvm.MethodName)) ∈ lw_all := sorry
theorem q1080 : (Jvm.Cond.static ({ cls := "java/lang/StringLatin1", name := "canEncode", desc := "(C)Z" } : Jvm.MethodName)) ∈ lw_all := sorry
theorem q1081 : (Jvm.Cond.code ({ cls := "java/lang/StringLatin1", name := "canEncode", desc := "(C)Z" } : Jvm.MethodName) prog_37_method_3_code (1 : Nat) (Option.some Jvm.ClassFile.FieldType.boolean)) ∈ lw_all := sorry
theorem q1100 : (Jvm.Cond.static ({ cls := "java/lang/StringLatin1", name := "hashCode", desc := "([B)I" } : Jvm.MethodName)) ∈ lw_all := sorry
theorem q1101 : (Jvm.Cond.code ({ cls := "java/lang/StringLatin1", name := "hashCode", desc := "([B)I" } : Jvm.MethodName) prog_37_method_21_code (1 : Nat) (Option.some Jvm.ClassFile.FieldType.int)) ∈ lw_all := sorry
theorem q1102 : (Jvm.Cond.methodLink "java/lang/StringLatin1" (84 : Nat) ({ cls := "jdk/internal/util/ArraysSupport", name := "vectorizedHashCode", desc := "(Ljava/lang/Object;IIII)I" } : Jvm.MethodName)) ∈ lw_all := sorry
theorem q1159 : (Jvm.Cond.static ({ cls := "java/lang/StringLatin1", name := "equals", desc := "([B[B)Z" } : Jvm.MethodName)) ∈ lw_all := sorry
theorem q1160 : (Jvm.Cond.code ({ cls := "java/lang/StringLatin1", name := "equals", desc := "([B[B)Z" } : Jvm.MethodName) prog_37_method_13_code (3 : Nat) (Option.some Jvm.ClassFile.FieldType.boolean)) ∈ lw_all := sorry
theorem q1985 : (Jvm.Cond.static ({ cls := "java/lang/StringLatin1", name := "fillNull", desc := "([BII)V" } : Jvm.MethodName)) ∈ lw_all := sorry
theorem q1986 : (Jvm.Cond.code ({ cls := "java/lang/StringLatin1", name := "fillNull", desc := "([BII)V" } : Jvm.MethodName) prog_37_method_48_code (3 : Nat) (Option.none : Option Jvm.ClassFile.FieldType)) ∈ lw_all := sorry
theorem q1987 : (Jvm.Cond.methodLink "java/lang/StringLatin1" (236 : Nat) ({ cls := "java/util/Arrays", name := "fill", desc := "([BIIB)V" } : Jvm.MethodName)) ∈ lw_all := sorry
theorem q2195 : (Jvm.Cond.static ({ cls := "java/lang/StringLatin1", name := "charAt", desc := "([BI)C" } : Jvm.MethodName)) ∈ lw_all := sorry
theorem q2196 : (Jvm.Cond.code ({ cls := "java/lang/StringLatin1", name := "charAt", desc := "([BI)C" } : Jvm.MethodName) prog_37_method_2_code (2 : Nat) (Option.some Jvm.ClassFile.FieldType.char)) ∈ lw_all := sorry
theorem q2197 : (Jvm.Cond.methodLink "java/lang/StringLatin1" (9 : Nat) ({ cls := "java/lang/String", name := "checkIndex", desc := "(II)V" } : Jvm.MethodName)) ∈ lw_all := sorry
/-! java/lang/Number -/
set_option maxRecDepth 100000
def RJ17 : String := "java/lang/Number"
abbrev cJ17_init : ByteArray := prog_32_method_1_code
def yJ17_init : MethodName := ⟨RJ17, "<init>", "()V"⟩
theorem dJ17_init_0 : decode cJ17_init 0 = .ok (.aload_n 0, 1) := sorry
theorem dJ17_init_1 : decode cJ17_init 1 = .ok (.invokespecial 1, 3) := sorry
theorem dJ17_init_4 : decode cJ17_init 4 = .ok (.return_, 1) := sorry
theorem q104 : (Jvm.Cond.initialized "java/lang/Number") ∈ lw_all := sorry
theorem q848 : (Jvm.Cond.instanceMethod ({ cls := "java/lang/Number", name := "<init>", desc := "()V" } : Jvm.MethodName)) ∈ lw_all := sorry
theorem q849 : (Jvm.Cond.code ({ cls := "java/lang/Number", name := "<init>", desc := "()V" } : Jvm.MethodName) prog_32_method_1_code (1 : Nat) (Option.none : Option Jvm.ClassFile.FieldType)) ∈ lw_all := sorry
theorem q850 : (Jvm.Cond.methodLink "java/lang/Number" (1 : Nat) ({ cls := "java/lang/Object", name := "<init>", desc := "()V" } : Jvm.MethodName)) ∈ lw_all := sorry
/-! java/lang/Integer -/
set_option maxRecDepth 100000
def RJ18 : String := "java/lang/Integer"
def TJ18 : u_T := fun k => match k with
  | _ => ("java/lang/Integer", "value", "I", true)
def tyJ18 : Nat → FieldType := fun k => match k with
  | _ => .int
abbrev wsJ180 : List Cond := u_ws RJ18 TJ18 1
theorem nmJ18 : ∀ a, a < 1 → ∀ b, b < 1 → a ≠ b → (TJ18 a).2.1 ≠ (TJ18 b).2.1 := sorry
theorem tyJ18_ok : ∀ k, k < 1 → parseFieldDescriptor (TJ18 k).2.2.1 = some (tyJ18 k) := sorry
abbrev cJ18_stringSize : ByteArray := prog_28_method_13_code
def yJ18_stringSize : MethodName := ⟨RJ18, "stringSize", "(I)I"⟩
def dkwJ18_stringSize_1 : List UInt8 := [164, 0, 7, 29, 27, 96, 172, 16, 10, 28, 104, 61, 132, 3, 1, 167, 255, 233, 16, 10, 27, 96, 172]
abbrev dktJ18_stringSize_1 : List UInt8 := dkwJ18_stringSize_1 ++ []
def dkwJ18_stringSize_0 : List UInt8 := [4, 60, 26, 155, 0, 8, 3, 60, 26, 116, 59, 16, 246, 61, 4, 62, 29, 16, 10, 162, 0, 23, 26, 28]
abbrev dktJ18_stringSize_0 : List UInt8 := dkwJ18_stringSize_0 ++ dktJ18_stringSize_1
theorem dksJ18_stringSize_0 : cJ18_stringSize.data.toList.drop 0 = dktJ18_stringSize_0 := sorry
theorem dksJ18_stringSize_1 : cJ18_stringSize.data.toList.drop 24 = dktJ18_stringSize_1 := sorry
theorem dJ18_stringSize_0 : decode cJ18_stringSize 0 = .ok (.iconst 1, 1) := sorry
theorem dJ18_stringSize_1 : decode cJ18_stringSize 1 = .ok (.istore_n 1, 1) := sorry
theorem dJ18_stringSize_2 : decode cJ18_stringSize 2 = .ok (.iload_n 0, 1) := sorry
theorem dJ18_stringSize_3 : decode cJ18_stringSize 3 = .ok (.ifCond .lt 8, 3) := sorry
theorem dJ18_stringSize_6 : decode cJ18_stringSize 6 = .ok (.iconst 0, 1) := sorry
theorem dJ18_stringSize_7 : decode cJ18_stringSize 7 = .ok (.istore_n 1, 1) := sorry
theorem dJ18_stringSize_8 : decode cJ18_stringSize 8 = .ok (.iload_n 0, 1) := sorry
theorem dJ18_stringSize_9 : decode cJ18_stringSize 9 = .ok (.ineg, 1) := sorry
theorem dJ18_stringSize_10 : decode cJ18_stringSize 10 = .ok (.istore_n 0, 1) := sorry
theorem dJ18_stringSize_11 : decode cJ18_stringSize 11 = .ok (.bipush (-10), 2) := sorry
theorem dJ18_stringSize_13 : decode cJ18_stringSize 13 = .ok (.istore_n 2, 1) := sorry
theorem dJ18_stringSize_14 : decode cJ18_stringSize 14 = .ok (.iconst 1, 1) := sorry
theorem dJ18_stringSize_15 : decode cJ18_stringSize 15 = .ok (.istore_n 3, 1) := sorry
theorem dJ18_stringSize_16 : decode cJ18_stringSize 16 = .ok (.iload_n 3, 1) := sorry
theorem dJ18_stringSize_17 : decode cJ18_stringSize 17 = .ok (.bipush 10, 2) := sorry
theorem dJ18_stringSize_19 : decode cJ18_stringSize 19 = .ok (.if_icmp .ge 23, 3) := sorry
theorem dJ18_stringSize_22 : decode cJ18_stringSize 22 = .ok (.iload_n 0, 1) := sorry
theorem dJ18_stringSize_23 : decode cJ18_stringSize 23 = .ok (.iload_n 2, 1) := sorry
theorem dJ18_stringSize_24 : decode cJ18_stringSize 24 = .ok (.if_icmp .le 7, 3) := sorry
theorem dJ18_stringSize_27 : decode cJ18_stringSize 27 = .ok (.iload_n 3, 1) := sorry
theorem dJ18_stringSize_28 : decode cJ18_stringSize 28 = .ok (.iload_n 1, 1) := sorry
theorem dJ18_stringSize_29 : decode cJ18_stringSize 29 = .ok (.iadd, 1) := sorry
theorem dJ18_stringSize_30 : decode cJ18_stringSize 30 = .ok (.ireturn, 1) := sorry
theorem dJ18_stringSize_31 : decode cJ18_stringSize 31 = .ok (.bipush 10, 2) := sorry
theorem dJ18_stringSize_33 : decode cJ18_stringSize 33 = .ok (.iload_n 2, 1) := sorry
theorem dJ18_stringSize_34 : decode cJ18_stringSize 34 = .ok (.imul, 1) := sorry
theorem dJ18_stringSize_35 : decode cJ18_stringSize 35 = .ok (.istore_n 2, 1) := sorry
theorem dJ18_stringSize_36 : decode cJ18_stringSize 36 = .ok (.iinc 3 1, 3) := sorry
theorem dJ18_stringSize_39 : decode cJ18_stringSize 39 = .ok (.goto (-23), 3) := sorry
theorem dJ18_stringSize_42 : decode cJ18_stringSize 42 = .ok (.bipush 10, 2) := sorry
theorem dJ18_stringSize_44 : decode cJ18_stringSize 44 = .ok (.iload_n 1, 1) := sorry
theorem dJ18_stringSize_45 : decode cJ18_stringSize 45 = .ok (.iadd, 1) := sorry
theorem dJ18_stringSize_46 : decode cJ18_stringSize 46 = .ok (.ireturn, 1) := sorry
abbrev cJ18_getChars : ByteArray := prog_28_method_12_code
def yJ18_getChars : MethodName := ⟨RJ18, "getChars", "(II[B)I"⟩
def dkwJ18_getChars_5 : List UInt8 := [16, 45, 84, 21, 5, 172]
abbrev dktJ18_getChars_5 : List UInt8 := dkwJ18_getChars_5 ++ []
def dkwJ18_getChars_4 : List UInt8 := [132, 5, 255, 21, 5, 178, 0, 87, 26, 116, 51, 84, 21, 6, 153, 0, 12, 44, 132, 5, 255, 21, 5]
abbrev dktJ18_getChars_4 : List UInt8 := dkwJ18_getChars_4 ++ dktJ18_getChars_5
def dkwJ18_getChars_3 : List UInt8 := [167, 255, 209, 44, 132, 5, 255, 21, 5, 178, 0, 83, 26, 116, 51, 84, 26, 16, 247, 162, 0, 16, 44]
abbrev dktJ18_getChars_3 : List UInt8 := dkwJ18_getChars_3 ++ dktJ18_getChars_4
def dkwJ18_getChars_2 : List UInt8 := [21, 5, 178, 0, 83, 21, 4, 51, 84, 44, 132, 5, 255, 21, 5, 178, 0, 87, 21, 4, 51, 84]
abbrev dktJ18_getChars_2 : List UInt8 := dkwJ18_getChars_2 ++ dktJ18_getChars_3
def dkwJ18_getChars_1 : List UInt8 := [16, 156, 163, 0, 47, 26, 16, 100, 108, 62, 29, 16, 100, 104, 26, 100, 54, 4, 29, 59, 44, 132, 5, 255]
abbrev dktJ18_getChars_1 : List UInt8 := dkwJ18_getChars_1 ++ dktJ18_getChars_2
def dkwJ18_getChars_0 : List UInt8 := [27, 54, 5, 26, 156, 0, 7, 4, 167, 0, 4, 3, 54, 6, 21, 6, 154, 0, 6, 26, 116, 59, 26]
abbrev dktJ18_getChars_0 : List UInt8 := dkwJ18_getChars_0 ++ dktJ18_getChars_1
theorem dksJ18_getChars_0 : cJ18_getChars.data.toList.drop 0 = dktJ18_getChars_0 := sorry
theorem dksJ18_getChars_1 : cJ18_getChars.data.toList.drop 23 = dktJ18_getChars_1 := sorry
theorem dksJ18_getChars_2 : cJ18_getChars.data.toList.drop 47 = dktJ18_getChars_2 := sorry
theorem dksJ18_getChars_3 : cJ18_getChars.data.toList.drop 69 = dktJ18_getChars_3 := sorry
theorem dksJ18_getChars_4 : cJ18_getChars.data.toList.drop 92 = dktJ18_getChars_4 := sorry
theorem dksJ18_getChars_5 : cJ18_getChars.data.toList.drop 115 = dktJ18_getChars_5 := sorry
theorem dJ18_getChars_0 : decode cJ18_getChars 0 = .ok (.iload_n 1, 1) := sorry
theorem dJ18_getChars_1 : decode cJ18_getChars 1 = .ok (.istore 5, 2) := sorry
theorem dJ18_getChars_3 : decode cJ18_getChars 3 = .ok (.iload_n 0, 1) := sorry
theorem dJ18_getChars_4 : decode cJ18_getChars 4 = .ok (.ifCond .ge 7, 3) := sorry
theorem dJ18_getChars_7 : decode cJ18_getChars 7 = .ok (.iconst 1, 1) := sorry
theorem dJ18_getChars_8 : decode cJ18_getChars 8 = .ok (.goto 4, 3) := sorry
theorem dJ18_getChars_11 : decode cJ18_getChars 11 = .ok (.iconst 0, 1) := sorry
theorem dJ18_getChars_12 : decode cJ18_getChars 12 = .ok (.istore 6, 2) := sorry
theorem dJ18_getChars_14 : decode cJ18_getChars 14 = .ok (.iload 6, 2) := sorry
theorem dJ18_getChars_16 : decode cJ18_getChars 16 = .ok (.ifCond .ne 6, 3) := sorry
theorem dJ18_getChars_19 : decode cJ18_getChars 19 = .ok (.iload_n 0, 1) := sorry
theorem dJ18_getChars_20 : decode cJ18_getChars 20 = .ok (.ineg, 1) := sorry
theorem dJ18_getChars_21 : decode cJ18_getChars 21 = .ok (.istore_n 0, 1) := sorry
theorem dJ18_getChars_22 : decode cJ18_getChars 22 = .ok (.iload_n 0, 1) := sorry
theorem dJ18_getChars_23 : decode cJ18_getChars 23 = .ok (.bipush (-100), 2) := sorry
theorem dJ18_getChars_25 : decode cJ18_getChars 25 = .ok (.if_icmp .gt 47, 3) := sorry
theorem dJ18_getChars_28 : decode cJ18_getChars 28 = .ok (.iload_n 0, 1) := sorry
theorem dJ18_getChars_29 : decode cJ18_getChars 29 = .ok (.bipush 100, 2) := sorry
theorem dJ18_getChars_31 : decode cJ18_getChars 31 = .ok (.idiv, 1) := sorry
theorem dJ18_getChars_32 : decode cJ18_getChars 32 = .ok (.istore_n 3, 1) := sorry
theorem dJ18_getChars_33 : decode cJ18_getChars 33 = .ok (.iload_n 3, 1) := sorry
theorem dJ18_getChars_34 : decode cJ18_getChars 34 = .ok (.bipush 100, 2) := sorry
theorem dJ18_getChars_36 : decode cJ18_getChars 36 = .ok (.imul, 1) := sorry
theorem dJ18_getChars_37 : decode cJ18_getChars 37 = .ok (.iload_n 0, 1) := sorry
theorem dJ18_getChars_38 : decode cJ18_getChars 38 = .ok (.isub, 1) := sorry
theorem dJ18_getChars_39 : decode cJ18_getChars 39 = .ok (.istore 4, 2) := sorry
theorem dJ18_getChars_41 : decode cJ18_getChars 41 = .ok (.iload_n 3, 1) := sorry
theorem dJ18_getChars_42 : decode cJ18_getChars 42 = .ok (.istore_n 0, 1) := sorry
theorem dJ18_getChars_43 : decode cJ18_getChars 43 = .ok (.aload_n 2, 1) := sorry
theorem dJ18_getChars_44 : decode cJ18_getChars 44 = .ok (.iinc 5 (-1), 3) := sorry
theorem dJ18_getChars_47 : decode cJ18_getChars 47 = .ok (.iload 5, 2) := sorry
theorem dJ18_getChars_49 : decode cJ18_getChars 49 = .ok (.getstatic 83, 3) := sorry
theorem dJ18_getChars_52 : decode cJ18_getChars 52 = .ok (.iload 4, 2) := sorry
theorem dJ18_getChars_54 : decode cJ18_getChars 54 = .ok (.baload, 1) := sorry
theorem dJ18_getChars_55 : decode cJ18_getChars 55 = .ok (.bastore, 1) := sorry
theorem dJ18_getChars_56 : decode cJ18_getChars 56 = .ok (.aload_n 2, 1) := sorry
theorem dJ18_getChars_57 : decode cJ18_getChars 57 = .ok (.iinc 5 (-1), 3) := sorry
theorem dJ18_getChars_60 : decode cJ18_getChars 60 = .ok (.iload 5, 2) := sorry
theorem dJ18_getChars_62 : decode cJ18_getChars 62 = .ok (.getstatic 87, 3) := sorry
theorem dJ18_getChars_65 : decode cJ18_getChars 65 = .ok (.iload 4, 2) := sorry
theorem dJ18_getChars_67 : decode cJ18_getChars 67 = .ok (.baload, 1) := sorry
theorem dJ18_getChars_68 : decode cJ18_getChars 68 = .ok (.bastore, 1) := sorry
theorem dJ18_getChars_69 : decode cJ18_getChars 69 = .ok (.goto (-47), 3) := sorry
theorem dJ18_getChars_72 : decode cJ18_getChars 72 = .ok (.aload_n 2, 1) := sorry
theorem dJ18_getChars_73 : decode cJ18_getChars 73 = .ok (.iinc 5 (-1), 3) := sorry
theorem dJ18_getChars_76 : decode cJ18_getChars 76 = .ok (.iload 5, 2) := sorry
theorem dJ18_getChars_78 : decode cJ18_getChars 78 = .ok (.getstatic 83, 3) := sorry
theorem dJ18_getChars_81 : decode cJ18_getChars 81 = .ok (.iload_n 0, 1) := sorry
theorem dJ18_getChars_82 : decode cJ18_getChars 82 = .ok (.ineg, 1) := sorry
theorem dJ18_getChars_83 : decode cJ18_getChars 83 = .ok (.baload, 1) := sorry
theorem dJ18_getChars_84 : decode cJ18_getChars 84 = .ok (.bastore, 1) := sorry
theorem dJ18_getChars_85 : decode cJ18_getChars 85 = .ok (.iload_n 0, 1) := sorry
theorem dJ18_getChars_86 : decode cJ18_getChars 86 = .ok (.bipush (-9), 2) := sorry
theorem dJ18_getChars_88 : decode cJ18_getChars 88 = .ok (.if_icmp .ge 16, 3) := sorry
theorem dJ18_getChars_91 : decode cJ18_getChars 91 = .ok (.aload_n 2, 1) := sorry
theorem dJ18_getChars_92 : decode cJ18_getChars 92 = .ok (.iinc 5 (-1), 3) := sorry
theorem dJ18_getChars_95 : decode cJ18_getChars 95 = .ok (.iload 5, 2) := sorry
theorem dJ18_getChars_97 : decode cJ18_getChars 97 = .ok (.getstatic 87, 3) := sorry
theorem dJ18_getChars_100 : decode cJ18_getChars 100 = .ok (.iload_n 0, 1) := sorry
theorem dJ18_getChars_101 : decode cJ18_getChars 101 = .ok (.ineg, 1) := sorry
theorem dJ18_getChars_102 : decode cJ18_getChars 102 = .ok (.baload, 1) := sorry
theorem dJ18_getChars_103 : decode cJ18_getChars 103 = .ok (.bastore, 1) := sorry
theorem dJ18_getChars_104 : decode cJ18_getChars 104 = .ok (.iload 6, 2) := sorry
theorem dJ18_getChars_106 : decode cJ18_getChars 106 = .ok (.ifCond .eq 12, 3) := sorry
theorem dJ18_getChars_109 : decode cJ18_getChars 109 = .ok (.aload_n 2, 1) := sorry
theorem dJ18_getChars_110 : decode cJ18_getChars 110 = .ok (.iinc 5 (-1), 3) := sorry
theorem dJ18_getChars_113 : decode cJ18_getChars 113 = .ok (.iload 5, 2) := sorry
theorem dJ18_getChars_115 : decode cJ18_getChars 115 = .ok (.bipush 45, 2) := sorry
theorem dJ18_getChars_117 : decode cJ18_getChars 117 = .ok (.bastore, 1) := sorry
theorem dJ18_getChars_118 : decode cJ18_getChars 118 = .ok (.iload 5, 2) := sorry
theorem dJ18_getChars_120 : decode cJ18_getChars 120 = .ok (.ireturn, 1) := sorry
abbrev cJ18_valueOf : ByteArray := prog_28_method_22_code
def yJ18_valueOf : MethodName := ⟨RJ18, "valueOf", "(I)Ljava/lang/Integer;"⟩
def dkwJ18_valueOf_1 : List UInt8 := [187, 0, 1, 89, 26, 183, 0, 199, 176]
abbrev dktJ18_valueOf_1 : List UInt8 := dkwJ18_valueOf_1 ++ []
def dkwJ18_valueOf_0 : List UInt8 := [26, 16, 128, 161, 0, 20, 26, 178, 0, 191, 163, 0, 13, 178, 0, 195, 26, 17, 0, 128, 96, 50, 176]
abbrev dktJ18_valueOf_0 : List UInt8 := dkwJ18_valueOf_0 ++ dktJ18_valueOf_1
theorem dksJ18_valueOf_0 : cJ18_valueOf.data.toList.drop 0 = dktJ18_valueOf_0 := sorry
theorem dksJ18_valueOf_1 : cJ18_valueOf.data.toList.drop 23 = dktJ18_valueOf_1 := sorry
theorem dJ18_valueOf_0 : decode cJ18_valueOf 0 = .ok (.iload_n 0, 1) := sorry
theorem dJ18_valueOf_1 : decode cJ18_valueOf 1 = .ok (.bipush (-128), 2) := sorry
theorem dJ18_valueOf_3 : decode cJ18_valueOf 3 = .ok (.if_icmp .lt 20, 3) := sorry
theorem dJ18_valueOf_6 : decode cJ18_valueOf 6 = .ok (.iload_n 0, 1) := sorry
theorem dJ18_valueOf_7 : decode cJ18_valueOf 7 = .ok (.getstatic 191, 3) := sorry
theorem dJ18_valueOf_10 : decode cJ18_valueOf 10 = .ok (.if_icmp .gt 13, 3) := sorry
theorem dJ18_valueOf_13 : decode cJ18_valueOf 13 = .ok (.getstatic 195, 3) := sorry
theorem dJ18_valueOf_16 : decode cJ18_valueOf 16 = .ok (.iload_n 0, 1) := sorry
theorem dJ18_valueOf_17 : decode cJ18_valueOf 17 = .ok (.sipush 128, 3) := sorry
theorem dJ18_valueOf_20 : decode cJ18_valueOf 20 = .ok (.iadd, 1) := sorry
theorem dJ18_valueOf_21 : decode cJ18_valueOf 21 = .ok (.aaload, 1) := sorry
theorem dJ18_valueOf_22 : decode cJ18_valueOf 22 = .ok (.areturn, 1) := sorry
theorem dJ18_valueOf_23 : decode cJ18_valueOf 23 = .ok (.new 1, 3) := sorry
theorem dJ18_valueOf_26 : decode cJ18_valueOf 26 = .ok (.dup, 1) := sorry
theorem dJ18_valueOf_27 : decode cJ18_valueOf 27 = .ok (.iload_n 0, 1) := sorry
theorem dJ18_valueOf_28 : decode cJ18_valueOf 28 = .ok (.invokespecial 199, 3) := sorry
theorem dJ18_valueOf_31 : decode cJ18_valueOf 31 = .ok (.areturn, 1) := sorry
abbrev cJ18_init : ByteArray := prog_28_method_23_code
def yJ18_init : MethodName := ⟨RJ18, "<init>", "(I)V"⟩
def dkwJ18_init_0 : List UInt8 := [42, 183, 0, 202, 42, 27, 181, 0, 205, 177]
abbrev dktJ18_init_0 : List UInt8 := dkwJ18_init_0 ++ []
theorem dksJ18_init_0 : cJ18_init.data.toList.drop 0 = dktJ18_init_0 := sorry
theorem dJ18_init_0 : decode cJ18_init 0 = .ok (.aload_n 0, 1) := sorry
theorem dJ18_init_1 : decode cJ18_init 1 = .ok (.invokespecial 202, 3) := sorry
theorem dJ18_init_4 : decode cJ18_init 4 = .ok (.aload_n 0, 1) := sorry
theorem dJ18_init_5 : decode cJ18_init 5 = .ok (.iload_n 1, 1) := sorry
theorem dJ18_init_6 : decode cJ18_init 6 = .ok (.putfield 205, 3) := sorry
theorem dJ18_init_9 : decode cJ18_init 9 = .ok (.return_, 1) := sorry
abbrev cJ18_intValue : ByteArray := prog_28_method_27_code
def yJ18_intValue : MethodName := ⟨RJ18, "intValue", "()I"⟩
theorem dJ18_intValue_0 : decode cJ18_intValue 0 = .ok (.aload_n 0, 1) := sorry
theorem dJ18_intValue_1 : decode cJ18_intValue 1 = .ok (.getfield 205, 3) := sorry
theorem dJ18_intValue_4 : decode cJ18_intValue 4 = .ok (.ireturn, 1) := sorry
theorem q105 : (Jvm.Cond.initialized "java/lang/Integer") ∈ lw_all := sorry
theorem q387 : (Jvm.Cond.static ({ cls := "java/lang/Integer", name := "stringSize", desc := "(I)I" } : Jvm.MethodName)) ∈ lw_all := sorry
theorem q388 : (Jvm.Cond.code ({ cls := "java/lang/Integer", name := "stringSize", desc := "(I)I" } : Jvm.MethodName) prog_28_method_13_code (4 : Nat) (Option.some Jvm.ClassFile.FieldType.int)) ∈ lw_all := sorry
theorem q390 : (Jvm.Cond.static ({ cls := "java/lang/Integer", name := "getChars", desc := "(II[B)I" } : Jvm.MethodName)) ∈ lw_all := sorry
theorem q391 : (Jvm.Cond.code ({ cls := "java/lang/Integer", name := "getChars", desc := "(II[B)I" } : Jvm.MethodName) prog_28_method_12_code (7 : Nat) (Option.some Jvm.ClassFile.FieldType.int)) ∈ lw_all := sorry
theorem q392 : (Jvm.Cond.fieldLink "java/lang/Integer" (83 : Nat) "java/lang/Integer" "DigitOnes" "[B") ∈ lw_all := sorry
theorem q393 : (Jvm.Cond.laysStatic "java/lang/Integer" "DigitOnes" "[B") ∈ lw_tbl := sorry
theorem q394 : (Jvm.Cond.fieldLink "java/lang/Integer" (87 : Nat) "java/lang/Integer" "DigitTens" "[B") ∈ lw_all := sorry
theorem q395 : (Jvm.Cond.laysStatic "java/lang/Integer" "DigitTens" "[B") ∈ lw_tbl := sorry
theorem q836 : (Jvm.Cond.static ({ cls := "java/lang/Integer", name := "valueOf", desc := "(I)Ljava/lang/Integer;" } : Jvm.MethodName)) ∈ lw_all := sorry
theorem q837 : (Jvm.Cond.code ({ cls := "java/lang/Integer", name := "valueOf", desc := "(I)Ljava/lang/Integer;" } : Jvm.MethodName) prog_28_method_22_code (1 : Nat) (Option.some (Jvm.ClassFile.FieldType.object "java/lang/Integer"))) ∈ lw_all := sorry
theorem q838 : (Jvm.Cond.fieldLink "java/lang/Integer" (191 : Nat) "java/lang/Integer$IntegerCache" "high" "I") ∈ lw_all := sorry
theorem q840 : (Jvm.Cond.fieldLink "java/lang/Integer" (195 : Nat) "java/lang/Integer$IntegerCache" "cache" "[Ljava/lang/Integer;") ∈ lw_all := sorry
theorem q842 : (Jvm.Cond.classLink "java/lang/Integer" (1 : Nat) "java/lang/Integer") ∈ lw_all := sorry
theorem q843 : (Jvm.Cond.instantiable "java/lang/Integer" (1 : Nat)) ∈ lw_all := sorry
theorem q844 : (Jvm.Cond.methodLink "java/lang/Integer" (199 : Nat) ({ cls := "java/lang/Integer", name := "<init>", desc := "(I)V" } : Jvm.MethodName)) ∈ lw_all := sorry
theorem q845 : (Jvm.Cond.instanceMethod ({ cls := "java/lang/Integer", name := "<init>", desc := "(I)V" } : Jvm.MethodName)) ∈ lw_all := sorry
theorem q846 : (Jvm.Cond.code ({ cls := "java/lang/Integer", name := "<init>", desc := "(I)V" } : Jvm.MethodName) prog_28_method_23_code (2 : Nat) (Option.none : Option Jvm.ClassFile.FieldType)) ∈ lw_all := sorry
theorem q847 : (Jvm.Cond.methodLink "java/lang/Integer" (202 : Nat) ({ cls := "java/lang/Number", name := "<init>", desc := "()V" } : Jvm.MethodName)) ∈ lw_all := sorry
theorem q851 : (Jvm.Cond.fieldLink "java/lang/Integer" (205 : Nat) "java/lang/Integer" "value" "I") ∈ lw_all := sorry
theorem q852 : (Jvm.Cond.laysFinal "java/lang/Integer" "java/lang/Integer" "value" "I") ∈ lw_all := sorry
theorem q853 : (Jvm.Cond.soleField "java/lang/Integer" "value") ∈ lw_all := sorry
theorem q854 : (Jvm.Cond.superclass "java/lang/Integer" "java/lang/Number") ∈ lw_all := sorry
theorem q1304 : (Jvm.Cond.selects "java/lang/Integer" ({ cls := "java/lang/Object", name := "getClass", desc := "()Ljava/lang/Class;" } : Jvm.MethodName) ({ cls := "java/lang/Object", name := "getClass", desc := "()Ljava/lang/Class;" } : Jvm.MethodName)) ∈ lw_all := sorry
theorem q1644 : (Jvm.Cond.instanceMethod ({ cls := "java/lang/Integer", name := "intValue", desc := "()I" } : Jvm.MethodName)) ∈ lw_all := sorry
theorem q1645 : (Jvm.Cond.selects "java/lang/Integer" ({ cls := "java/lang/Integer", name := "intValue", desc := "()I" } : Jvm.MethodName) ({ cls := "java/lang/Integer", name := "intValue", desc := "()I" } : Jvm.MethodName)) ∈ lw_all := sorry
theorem q1646 : (Jvm.Cond.code ({ cls := "java/lang/Integer", name := "intValue", desc := "()I" } : Jvm.MethodName) prog_28_method_27_code (1 : Nat) (Option.some Jvm.ClassFile.FieldType.int)) ∈ lw_all := sorry
theorem q2659 : (Jvm.Cond.castable "java/lang/Integer" "java/lang/Object") ∈ lw_tbl := sorry
theorem in_J18 : ∀ w ∈ wsJ180, w ∈ lw_all := sorry
/-! java/util/Objects -/
set_option maxRecDepth 100000
def RJ19 : String := "java/util/Objects"
abbrev cJ19_checkIndex : ByteArray := prog_55_method_17_code
def yJ19_checkIndex : MethodName := ⟨RJ19, "checkIndex", "(II)I"⟩
def dkwJ19_checkIndex_0 : List UInt8 := [26, 27, 1, 184, 0, 105, 172]
abbrev dktJ19_checkIndex_0 : List UInt8 := dkwJ19_checkIndex_0 ++ []
theorem dksJ19_checkIndex_0 : cJ19_checkIndex.data.toList.drop 0 = dktJ19_checkIndex_0 := sorry
theorem dJ19_checkIndex_0 : decode cJ19_checkIndex 0 = .ok (.iload_n 0, 1) := sorry
theorem dJ19_checkIndex_1 : decode cJ19_checkIndex 1 = .ok (.iload_n 1, 1) := sorry
theorem dJ19_checkIndex_2 : decode cJ19_checkIndex 2 = .ok (.aconst_null, 1) := sorry
theorem dJ19_checkIndex_3 : decode cJ19_checkIndex 3 = .ok (.invokestatic 105, 3) := sorry
theorem dJ19_checkIndex_6 : decode cJ19_checkIndex 6 = .ok (.ireturn, 1) := sorry
theorem q110 : (Jvm.Cond.initialized "java/util/Objects") ∈ lw_all := sorry
theorem q710 : (Jvm.Cond.static ({ cls := "java/util/Objects", name := "checkIndex", desc := "(II)I" } : Jvm.MethodName)) ∈ lw_all := sorry
theorem q711 : (Jvm.Cond.code ({ cls := "java/util/Objects", name := "checkIndex", desc := "(II)I" } : Jvm.MethodName) prog_55_method_17_code (2 : Nat) (Option.some Jvm.ClassFile.FieldType.int)) ∈ lw_all := sorry
theorem q712 : (Jvm.Cond.methodLink "java/util/Objects" (105 : Nat) ({ cls := "jdk/internal/util/Preconditions", name := "checkIndex", desc := "(IILjava/util/function/BiFunction;)I" } : Jvm.MethodName)) ∈ lw_all := sorry
/-! java/util/NoSuchElementException -/
set_option maxRecDepth 100000
def RJ20 : String := "java/util/NoSuchElementException"
def TJ20 : u_T := fun k => match k with
  | 0 => ("java/lang/Throwable", "cause", "Ljava/lang/Throwable;", false)
  | 1 => ("java/lang/Throwable", "stackTrace", "[Ljava/lang/StackTraceElement;", false)
  | 2 => ("java/lang/Throwable", "suppressedExceptions", "Ljava/util/List;", false)
  | 3 => ("java/lang/Throwable", "detailMessage", "Ljava/lang/String;", false)
  | 4 => ("java/lang/Throwable", "backtrace", "Ljava/lang/Object;", false)
  | _ => ("java/lang/Throwable", "depth", "I", false)
def tyJ20 : Nat → FieldType := fun k => match k with
  | 0 => .object "java/lang/Throwable"
  | 1 => .array (.object "java/lang/StackTraceElement")
  | 2 => .object "java/util/List"
  | 3 => .object "java/lang/String"
  | 4 => .object "java/lang/Object"
  | _ => .int
abbrev wsJ200 : List Cond := u_ws RJ20 TJ20 6
theorem nmJ20 : ∀ a, a < 6 → ∀ b, b < 6 → a ≠ b → (TJ20 a).2.1 ≠ (TJ20 b).2.1 := sorry
theorem tyJ20_ok : ∀ k, k < 6 → parseFieldDescriptor (TJ20 k).2.2.1 = some (tyJ20 k) := sorry
abbrev cJ20_init : ByteArray := prog_54_method_1_code
def yJ20_init : MethodName := ⟨RJ20, "<init>", "()V"⟩
theorem dJ20_init_0 : decode cJ20_init 0 = .ok (.aload_n 0, 1) := sorry
theorem dJ20_init_1 : decode cJ20_init 1 = .ok (.invokespecial 1, 3) := sorry
theorem dJ20_init_4 : decode cJ20_init 4 = .ok (.return_, 1) := sorry
theorem q112 : (Jvm.Cond.initialized "java/util/NoSuchElementException") ∈ lw_all := sorry
theorem q219 : (Jvm.Cond.selects "java/util/NoSuchElementException" ({ cls := "java/lang/Throwable", name := "fillInStackTrace", desc := "()Ljava/lang/Throwable;" } : Jvm.MethodName) ({ cls := "java/lang/Throwable", name := "fillInStackTrace", desc := "()Ljava/lang/Throwable;" } : Jvm.MethodName)) ∈ lw_all := sorry
theorem q789 : (Jvm.Cond.instantiable "java/util/NoSuchElementException" (6 : Nat)) ∈ lw_all := sorry
theorem q790 : (Jvm.Cond.castable "java/util/NoSuchElementException" "java/util/NoSuchElementException") ∈ lw_tbl := sorry
theorem q791 : (Jvm.Cond.selects "java/util/NoSuchElementException" ({ cls := "java/lang/Throwable", name := "fillInStackTrace", desc := "(I)Ljava/lang/Throwable;" } : Jvm.MethodName) ({ cls := "java/lang/Throwable", name := "fillInStackTrace", desc := "(I)Ljava/lang/Throwable;" } : Jvm.MethodName)) ∈ lw_all := sorry
theorem q792 : (Jvm.Cond.lays "java/util/NoSuchElementException" "java/lang/Throwable" "cause" "Ljava/lang/Throwable;") ∈ lw_all := sorry
theorem q793 : (Jvm.Cond.lays "java/util/NoSuchElementException" "java/lang/Throwable" "stackTrace" "[Ljava/lang/StackTraceElement;") ∈ lw_all := sorry
theorem q794 : (Jvm.Cond.lays "java/util/NoSuchElementException" "java/lang/Throwable" "suppressedExceptions" "Ljava/util/List;") ∈ lw_all := sorry
theorem q795 : (Jvm.Cond.lays "java/util/NoSuchElementException" "java/lang/Throwable" "detailMessage" "Ljava/lang/String;") ∈ lw_all := sorry
theorem q796 : (Jvm.Cond.lays "java/util/NoSuchElementException" "java/lang/Throwable" "backtrace" "Ljava/lang/Object;") ∈ lw_all := sorry
theorem q798 : (Jvm.Cond.instanceMethod ({ cls := "java/util/NoSuchElementException", name := "<init>", desc := "()V" } : Jvm.MethodName)) ∈ lw_all := sorry
theorem q799 : (Jvm.Cond.code ({ cls := "java/util/NoSuchElementException", name := "<init>", desc := "()V" } : Jvm.MethodName) prog_54_method_1_code (1 : Nat) (Option.none : Option Jvm.ClassFile.FieldType)) ∈ lw_all := sorry
theorem q800 : (Jvm.Cond.methodLink "java/util/NoSuchElementException" (1 : Nat) ({ cls := "java/lang/RuntimeException", name := "<init>", desc := "()V" } : Jvm.MethodName)) ∈ lw_all := sorry
theorem q807 : (Jvm.Cond.lays "java/util/NoSuchElementException" "java/lang/Throwable" "depth" "I") ∈ lw_all := sorry
theorem q808 : (Jvm.Cond.superclass "java/util/NoSuchElementException" "java/lang/RuntimeException") ∈ lw_all := sorry
theorem q1312 : (Jvm.Cond.selects "java/util/NoSuchElementException" ({ cls := "java/lang/Object", name := "getClass", desc := "()Ljava/lang/Class;" } : Jvm.MethodName) ({ cls := "java/lang/Object", name := "getClass", desc := "()Ljava/lang/Class;" } : Jvm.MethodName)) ∈ lw_all := sorry
theorem q2650 : (Jvm.Cond.castable "java/util/NoSuchElementException" "java/lang/Object") ∈ lw_tbl := sorry
theorem in_J20 : ∀ w ∈ wsJ200, w ∈ lw_all := sorry
/-! java/util/ArrayDeque$DeqIterator -/
set_option maxRecDepth 100000
def RJ21 : String := "java/util/ArrayDeque$DeqIterator"
def TJ21 : u_T := fun k => match k with
  | 0 => ("java/util/ArrayDeque$DeqIterator", "cursor", "I", false)
  | 1 => ("java/util/ArrayDeque$DeqIterator", "remaining", "I", false)
  | 2 => ("java/util/ArrayDeque$DeqIterator", "lastRet", "I", false)
  | _ => ("java/util/ArrayDeque$DeqIterator", "this$0", "Ljava/util/ArrayDeque;", true)
def tyJ21 : Nat → FieldType := fun k => match k with
  | 0 => .int
  | 1 => .int
  | 2 => .int
  | _ => .object "java/util/ArrayDeque"
abbrev wsJ210 : List Cond := u_ws RJ21 TJ21 4
theorem nmJ21 : ∀ a, a < 4 → ∀ b, b < 4 → a ≠ b → (TJ21 a).2.1 ≠ (TJ21 b).2.1 := sorry
theorem tyJ21_ok : ∀ k, k < 4 → parseFieldDescriptor (TJ21 k).2.2.1 = some (tyJ21 k) := sorry
abbrev cJ21_init : ByteArray := prog_47_method_1_code
def yJ21_init : MethodName := ⟨RJ21, "<init>", "(Ljava/util/ArrayDeque;)V"⟩
def dkwJ21_init_1 : List UInt8 := [181, 0, 23, 42, 43, 180, 0, 26, 181, 0, 29, 177]
abbrev dktJ21_init_1 : List UInt8 := dkwJ21_init_1 ++ []
def dkwJ21_init_0 : List UInt8 := [42, 43, 181, 0, 1, 42, 183, 0, 7, 42, 42, 180, 0, 1, 182, 0, 13, 181, 0, 19, 42, 2]
abbrev dktJ21_init_0 : List UInt8 := dkwJ21_init_0 ++ dktJ21_init_1
theorem dksJ21_init_0 : cJ21_init.data.toList.drop 0 = dktJ21_init_0 := sorry
theorem dksJ21_init_1 : cJ21_init.data.toList.drop 22 = dktJ21_init_1 := sorry
theorem dJ21_init_0 : decode cJ21_init 0 = .ok (.aload_n 0, 1) := sorry
theorem dJ21_init_1 : decode cJ21_init 1 = .ok (.aload_n 1, 1) := sorry
theorem dJ21_init_2 : decode cJ21_init 2 = .ok (.putfield 1, 3) := sorry
theorem dJ21_init_5 : decode cJ21_init 5 = .ok (.aload_n 0, 1) := sorry
theorem dJ21_init_6 : decode cJ21_init 6 = .ok (.invokespecial 7, 3) := sorry
theorem dJ21_init_9 : decode cJ21_init 9 = .ok (.aload_n 0, 1) := sorry
theorem dJ21_init_10 : decode cJ21_init 10 = .ok (.aload_n 0, 1) := sorry
theorem dJ21_init_11 : decode cJ21_init 11 = .ok (.getfield 1, 3) := sorry
theorem dJ21_init_14 : decode cJ21_init 14 = .ok (.invokevirtual 13, 3) := sorry
theorem dJ21_init_17 : decode cJ21_init 17 = .ok (.putfield 19, 3) := sorry
theorem dJ21_init_20 : decode cJ21_init 20 = .ok (.aload_n 0, 1) := sorry
theorem dJ21_init_21 : decode cJ21_init 21 = .ok (.iconst (-1), 1) := sorry
theorem dJ21_init_22 : decode cJ21_init 22 = .ok (.putfield 23, 3) := sorry
theorem dJ21_init_25 : decode cJ21_init 25 = .ok (.aload_n 0, 1) := sorry
theorem dJ21_init_26 : decode cJ21_init 26 = .ok (.aload_n 1, 1) := sorry
theorem dJ21_init_27 : decode cJ21_init 27 = .ok (.getfield 26, 3) := sorry
theorem dJ21_init_30 : decode cJ21_init 30 = .ok (.putfield 29, 3) := sorry
theorem dJ21_init_33 : decode cJ21_init 33 = .ok (.return_, 1) := sorry
abbrev cJ21_hasNext : ByteArray := prog_47_method_2_code
def yJ21_hasNext : MethodName := ⟨RJ21, "hasNext", "()Z"⟩
def dkwJ21_hasNext_0 : List UInt8 := [42, 180, 0, 19, 158, 0, 7, 4, 167, 0, 4, 3, 172]
abbrev dktJ21_hasNext_0 : List UInt8 := dkwJ21_hasNext_0 ++ []
theorem dksJ21_hasNext_0 : cJ21_hasNext.data.toList.drop 0 = dktJ21_hasNext_0 := sorry
theorem dJ21_hasNext_0 : decode cJ21_hasNext 0 = .ok (.aload_n 0, 1) := sorry
theorem dJ21_hasNext_1 : decode cJ21_hasNext 1 = .ok (.getfield 19, 3) := sorry
theorem dJ21_hasNext_4 : decode cJ21_hasNext 4 = .ok (.ifCond .le 7, 3) := sorry
theorem dJ21_hasNext_7 : decode cJ21_hasNext 7 = .ok (.iconst 1, 1) := sorry
theorem dJ21_hasNext_8 : decode cJ21_hasNext 8 = .ok (.goto 4, 3) := sorry
theorem dJ21_hasNext_11 : decode cJ21_hasNext 11 = .ok (.iconst 0, 1) := sorry
theorem dJ21_hasNext_12 : decode cJ21_hasNext 12 = .ok (.ireturn, 1) := sorry
abbrev cJ21_next : ByteArray := prog_47_method_3_code
def yJ21_next : MethodName := ⟨RJ21, "next", "()Ljava/lang/Object;"⟩
def dkwJ21_next_2 : List UInt8 := [181, 0, 29, 42, 89, 180, 0, 19, 4, 100, 181, 0, 19, 44, 176]
abbrev dktJ21_next_2 : List UInt8 := dkwJ21_next_2 ++ []
def dkwJ21_next_1 : List UInt8 := [42, 180, 0, 29, 184, 0, 39, 77, 42, 42, 42, 180, 0, 29, 90, 181, 0, 23, 43, 190, 184, 0, 43]
abbrev dktJ21_next_1 : List UInt8 := dkwJ21_next_1 ++ dktJ21_next_2
def dkwJ21_next_0 : List UInt8 := [42, 180, 0, 19, 157, 0, 11, 187, 0, 32, 89, 183, 0, 34, 191, 42, 180, 0, 1, 180, 0, 35, 76, 43]
abbrev dktJ21_next_0 : List UInt8 := dkwJ21_next_0 ++ dktJ21_next_1
theorem dksJ21_next_0 : cJ21_next.data.toList.drop 0 = dktJ21_next_0 := sorry
theorem dksJ21_next_1 : cJ21_next.data.toList.drop 24 = dktJ21_next_1 := sorry
theorem dksJ21_next_2 : cJ21_next.data.toList.drop 47 = dktJ21_next_2 := sorry
theorem dJ21_next_0 : decode cJ21_next 0 = .ok (.aload_n 0, 1) := sorry
theorem dJ21_next_1 : decode cJ21_next 1 = .ok (.getfield 19, 3) := sorry
theorem dJ21_next_4 : decode cJ21_next 4 = .ok (.ifCond .gt 11, 3) := sorry
theorem dJ21_next_7 : decode cJ21_next 7 = .ok (.new 32, 3) := sorry
theorem dJ21_next_10 : decode cJ21_next 10 = .ok (.dup, 1) := sorry
theorem dJ21_next_11 : decode cJ21_next 11 = .ok (.invokespecial 34, 3) := sorry
theorem dJ21_next_14 : decode cJ21_next 14 = .ok (.athrow, 1) := sorry
theorem dJ21_next_15 : decode cJ21_next 15 = .ok (.aload_n 0, 1) := sorry
theorem dJ21_next_16 : decode cJ21_next 16 = .ok (.getfield 1, 3) := sorry
theorem dJ21_next_19 : decode cJ21_next 19 = .ok (.getfield 35, 3) := sorry
theorem dJ21_next_22 : decode cJ21_next 22 = .ok (.astore_n 1, 1) := sorry
theorem dJ21_next_23 : decode cJ21_next 23 = .ok (.aload_n 1, 1) := sorry
theorem dJ21_next_24 : decode cJ21_next 24 = .ok (.aload_n 0, 1) := sorry
theorem dJ21_next_25 : decode cJ21_next 25 = .ok (.getfield 29, 3) := sorry
theorem dJ21_next_28 : decode cJ21_next 28 = .ok (.invokestatic 39, 3) := sorry
theorem dJ21_next_31 : decode cJ21_next 31 = .ok (.astore_n 2, 1) := sorry
theorem dJ21_next_32 : decode cJ21_next 32 = .ok (.aload_n 0, 1) := sorry
theorem dJ21_next_33 : decode cJ21_next 33 = .ok (.aload_n 0, 1) := sorry
theorem dJ21_next_34 : decode cJ21_next 34 = .ok (.aload_n 0, 1) := sorry
theorem dJ21_next_35 : decode cJ21_next 35 = .ok (.getfield 29, 3) := sorry
theorem dJ21_next_38 : decode cJ21_next 38 = .ok (.dup_x1, 1) := sorry
theorem dJ21_next_39 : decode cJ21_next 39 = .ok (.putfield 23, 3) := sorry
theorem dJ21_next_42 : decode cJ21_next 42 = .ok (.aload_n 1, 1) := sorry
theorem dJ21_next_43 : decode cJ21_next 43 = .ok (.arraylength, 1) := sorry
theorem dJ21_next_44 : decode cJ21_next 44 = .ok (.invokestatic 43, 3) := sorry
theorem dJ21_next_47 : decode cJ21_next 47 = .ok (.putfield 29, 3) := sorry
theorem dJ21_next_50 : decode cJ21_next 50 = .ok (.aload_n 0, 1) := sorry
theorem dJ21_next_51 : decode cJ21_next 51 = .ok (.dup, 1) := sorry
theorem dJ21_next_52 : decode cJ21_next 52 = .ok (.getfield 19, 3) := sorry
theorem dJ21_next_55 : decode cJ21_next 55 = .ok (.iconst 1, 1) := sorry
theorem dJ21_next_56 : decode cJ21_next 56 = .ok (.isub, 1) := sorry
theorem dJ21_next_57 : decode cJ21_next 57 = .ok (.putfield 19, 3) := sorry
theorem dJ21_next_60 : decode cJ21_next 60 = .ok (.aload_n 2, 1) := sorry
theorem dJ21_next_61 : decode cJ21_next 61 = .ok (.areturn, 1) := sorry
theorem q114 : (Jvm.Cond.initialized "java/util/ArrayDeque$DeqIterator") ∈ lw_all := sorry
theorem q147 : (Jvm.Cond.fieldLink "java/util/ArrayDeque$DeqIterator" (35 : Nat) "java/util/ArrayDeque" "elements" "[Ljava/lang/Object;") ∈ lw_all := sorry
theorem q148 : (Jvm.Cond.fieldLink "java/util/ArrayDeque$DeqIterator" (26 : Nat) "java/util/ArrayDeque" "head" "I") ∈ lw_all := sorry
theorem q740 : (Jvm.Cond.instantiable "java/util/ArrayDeque$DeqIterator" (4 : Nat)) ∈ lw_all := sorry
theorem q742 : (Jvm.Cond.instanceMethod ({ cls := "java/util/ArrayDeque$DeqIterator", name := "<init>", desc := "(Ljava/util/ArrayDeque;)V" } : Jvm.MethodName)) ∈ lw_all := sorry
theorem q743 : (Jvm.Cond.code ({ cls := "java/util/ArrayDeque$DeqIterator", name := "<init>", desc := "(Ljava/util/ArrayDeque;)V" } : Jvm.MethodName) prog_47_method_1_code (2 : Nat) (Option.none : Option Jvm.ClassFile.FieldType)) ∈ lw_all := sorry
theorem q744 : (Jvm.Cond.methodLink "java/util/ArrayDeque$DeqIterator" (7 : Nat) ({ cls := "java/lang/Object", name := "<init>", desc := "()V" } : Jvm.MethodName)) ∈ lw_all := sorry
theorem q745 : (Jvm.Cond.methodLink "java/util/ArrayDeque$DeqIterator" (13 : Nat) ({ cls := "java/util/ArrayDeque", name := "size", desc := "()I" } : Jvm.MethodName)) ∈ lw_all := sorry
theorem q746 : (Jvm.Cond.fieldLink "java/util/ArrayDeque$DeqIterator" (29 : Nat) "java/util/ArrayDeque$DeqIterator" "cursor" "I") ∈ lw_all := sorry
theorem q747 : (Jvm.Cond.fieldLink "java/util/ArrayDeque$DeqIterator" (19 : Nat) "java/util/ArrayDeque$DeqIterator" "remaining" "I") ∈ lw_all := sorry
theorem q748 : (Jvm.Cond.fieldLink "java/util/ArrayDeque$DeqIterator" (23 : Nat) "java/util/ArrayDeque$DeqIterator" "lastRet" "I") ∈ lw_all := sorry
theorem q749 : (Jvm.Cond.fieldLink "java/util/ArrayDeque$DeqIterator" (1 : Nat) "java/util/ArrayDeque$DeqIterator" "this$0" "Ljava/util/ArrayDeque;") ∈ lw_all := sorry
theorem q750 : (Jvm.Cond.lays "java/util/ArrayDeque$DeqIterator" "java/util/ArrayDeque$DeqIterator" "cursor" "I") ∈ lw_all := sorry
theorem q751 : (Jvm.Cond.soleField "java/util/ArrayDeque$DeqIterator" "cursor") ∈ lw_all := sorry
theorem q752 : (Jvm.Cond.lays "java/util/ArrayDeque$DeqIterator" "java/util/ArrayDeque$DeqIterator" "remaining" "I") ∈ lw_all := sorry
theorem q753 : (Jvm.Cond.soleField "java/util/ArrayDeque$DeqIterator" "remaining") ∈ lw_all := sorry
theorem q754 : (Jvm.Cond.lays "java/util/ArrayDeque$DeqIterator" "java/util/ArrayDeque$DeqIterator" "lastRet" "I") ∈ lw_all := sorry
theorem q755 : (Jvm.Cond.soleField "java/util/ArrayDeque$DeqIterator" "lastRet") ∈ lw_all := sorry
theorem q756 : (Jvm.Cond.laysFinal "java/util/ArrayDeque$DeqIterator" "java/util/ArrayDeque$DeqIterator" "this$0" "Ljava/util/ArrayDeque;") ∈ lw_all := sorry
theorem q757 : (Jvm.Cond.soleField "java/util/ArrayDeque$DeqIterator" "this$0") ∈ lw_all := sorry
theorem q758 : (Jvm.Cond.superclass "java/util/ArrayDeque$DeqIterator" "java/lang/Object") ∈ lw_all := sorry
theorem q769 : (Jvm.Cond.castable "java/util/ArrayDeque$DeqIterator" "java/util/Iterator") ∈ lw_tbl := sorry
theorem q770 : (Jvm.Cond.selects "java/util/ArrayDeque$DeqIterator" ({ cls := "java/util/Iterator", name := "hasNext", desc := "()Z" } : Jvm.MethodName) ({ cls := "java/util/ArrayDeque$DeqIterator", name := "hasNext", desc := "()Z" } : Jvm.MethodName)) ∈ lw_all := sorry
theorem q771 : (Jvm.Cond.unhidden "java/util/ArrayDeque$DeqIterator" "hasNext" "()Z") ∈ lw_tbl := sorry
theorem q772 : (Jvm.Cond.instanceMethod ({ cls := "java/util/ArrayDeque$DeqIterator", name := "hasNext", desc := "()Z" } : Jvm.MethodName)) ∈ lw_all := sorry
theorem q773 : (Jvm.Cond.publicMethod ({ cls := "java/util/ArrayDeque$DeqIterator", name := "hasNext", desc := "()Z" } : Jvm.MethodName)) ∈ lw_tbl := sorry
theorem q774 : (Jvm.Cond.code ({ cls := "java/util/ArrayDeque$DeqIterator", name := "hasNext", desc := "()Z" } : Jvm.MethodName) prog_47_method_2_code (1 : Nat) (Option.some Jvm.ClassFile.FieldType.boolean)) ∈ lw_all := sorry
theorem q855 : (Jvm.Cond.selects "java/util/ArrayDeque$DeqIterator" ({ cls := "java/util/Iterator", name := "next", desc := "()Ljava/lang/Object;" } : Jvm.MethodName) ({ cls := "java/util/ArrayDeque$DeqIterator", name := "next", desc := "()Ljava/lang/Object;" } : Jvm.MethodName)) ∈ lw_all := sorry
theorem q856 : (Jvm.Cond.unhidden "java/util/ArrayDeque$DeqIterator" "next" "()Ljava/lang/Object;") ∈ lw_tbl := sorry
theorem q857 : (Jvm.Cond.instanceMethod ({ cls := "java/util/ArrayDeque$DeqIterator", name := "next", desc := "()Ljava/lang/Object;" } : Jvm.MethodName)) ∈ lw_all := sorry
theorem q858 : (Jvm.Cond.publicMethod ({ cls := "java/util/ArrayDeque$DeqIterator", name := "next", desc := "()Ljava/lang/Object;" } : Jvm.MethodName)) ∈ lw_tbl := sorry
theorem q859 : (Jvm.Cond.code ({ cls := "java/util/ArrayDeque$DeqIterator", name := "next", desc := "()Ljava/lang/Object;" } : Jvm.MethodName) prog_47_method_3_code (3 : Nat) (Option.some (Jvm.ClassFile.FieldType.object "java/lang/Object"))) ∈ lw_all := sorry
theorem q860 : (Jvm.Cond.classLink "java/util/ArrayDeque$DeqIterator" (32 : Nat) "java/util/NoSuchElementException") ∈ lw_all := sorry
theorem q861 : (Jvm.Cond.methodLink "java/util/ArrayDeque$DeqIterator" (34 : Nat) ({ cls := "java/util/NoSuchElementException", name := "<init>", desc := "()V" } : Jvm.MethodName)) ∈ lw_all := sorry
theorem q862 : (Jvm.Cond.methodLink "java/util/ArrayDeque$DeqIterator" (39 : Nat) ({ cls := "java/util/ArrayDeque", name := "nonNullElementAt", desc := "([Ljava/lang/Object;I)Ljava/lang/Object;" } : Jvm.MethodName)) ∈ lw_all := sorry
theorem q865 : (Jvm.Cond.methodLink "java/util/ArrayDeque$DeqIterator" (43 : Nat) ({ cls := "java/util/ArrayDeque", name := "inc", desc := "(II)I" } : Jvm.MethodName)) ∈ lw_all := sorry
theorem q1310 : (Jvm.Cond.selects "java/util/ArrayDeque$DeqIterator" ({ cls := "java/lang/Object", name := "getClass", desc := "()Ljava/lang/Class;" } : Jvm.MethodName) ({ cls := "java/lang/Object", name := "getClass", desc := "()Ljava/lang/Class;" } : Jvm.MethodName)) ∈ lw_all := sorry
theorem q2652 : (Jvm.Cond.castable "java/util/ArrayDeque$DeqIterator" "java/lang/Object") ∈ lw_tbl := sorry
theorem in_J21 : ∀ w ∈ wsJ210, w ∈ lw_all := sorry
/-! java/lang/IllegalStateException -/
set_option maxRecDepth 100000
def RJ22 : String := "java/lang/IllegalStateException"
def TJ22 : u_T := fun k => match k with
  | 0 => ("java/lang/Throwable", "cause", "Ljava/lang/Throwable;", false)
  | 1 => ("java/lang/Throwable", "stackTrace", "[Ljava/lang/StackTraceElement;", false)
  | 2 => ("java/lang/Throwable", "suppressedExceptions", "Ljava/util/List;", false)
  | 3 => ("java/lang/Throwable", "detailMessage", "Ljava/lang/String;", false)
  | 4 => ("java/lang/Throwable", "backtrace", "Ljava/lang/Object;", false)
  | _ => ("java/lang/Throwable", "depth", "I", false)
def tyJ22 : Nat → FieldType := fun k => match k with
  | 0 => .object "java/lang/Throwable"
  | 1 => .array (.object "java/lang/StackTraceElement")
  | 2 => .object "java/util/List"
  | 3 => .object "java/lang/String"
  | 4 => .object "java/lang/Object"
  | _ => .int
abbrev wsJ220 : List Cond := u_ws RJ22 TJ22 6
theorem nmJ22 : ∀ a, a < 6 → ∀ b, b < 6 → a ≠ b → (TJ22 a).2.1 ≠ (TJ22 b).2.1 := sorry
theorem tyJ22_ok : ∀ k, k < 6 → parseFieldDescriptor (TJ22 k).2.2.1 = some (tyJ22 k) := sorry
abbrev cJ22_init : ByteArray := prog_26_method_2_code
def yJ22_init : MethodName := ⟨RJ22, "<init>", "(Ljava/lang/String;)V"⟩
def dkwJ22_init_0 : List UInt8 := [42, 43, 183, 0, 7, 177]
abbrev dktJ22_init_0 : List UInt8 := dkwJ22_init_0 ++ []
theorem dksJ22_init_0 : cJ22_init.data.toList.drop 0 = dktJ22_init_0 := sorry
theorem dJ22_init_0 : decode cJ22_init 0 = .ok (.aload_n 0, 1) := sorry
theorem dJ22_init_1 : decode cJ22_init 1 = .ok (.aload_n 1, 1) := sorry
theorem dJ22_init_2 : decode cJ22_init 2 = .ok (.invokespecial 7, 3) := sorry
theorem dJ22_init_5 : decode cJ22_init 5 = .ok (.return_, 1) := sorry
abbrev cJ22_init_2 : ByteArray := prog_26_method_1_code
def yJ22_init_2 : MethodName := ⟨RJ22, "<init>", "()V"⟩
theorem dJ22_init_2_0 : decode cJ22_init_2 0 = .ok (.aload_n 0, 1) := sorry
theorem dJ22_init_2_1 : decode cJ22_init_2 1 = .ok (.invokespecial 1, 3) := sorry
theorem dJ22_init_2_4 : decode cJ22_init_2 4 = .ok (.return_, 1) := sorry
theorem q116 : (Jvm.Cond.initialized "java/lang/IllegalStateException") ∈ lw_all := sorry
theorem q216 : (Jvm.Cond.selects "java/lang/IllegalStateException" ({ cls := "java/lang/Throwable", name := "fillInStackTrace", desc := "()Ljava/lang/Throwable;" } : Jvm.MethodName) ({ cls := "java/lang/Throwable", name := "fillInStackTrace", desc := "()Ljava/lang/Throwable;" } : Jvm.MethodName)) ∈ lw_all := sorry
theorem q1302 : (Jvm.Cond.selects "java/lang/IllegalStateException" ({ cls := "java/lang/Object", name := "getClass", desc := "()Ljava/lang/Class;" } : Jvm.MethodName) ({ cls := "java/lang/Object", name := "getClass", desc := "()Ljava/lang/Class;" } : Jvm.MethodName)) ∈ lw_all := sorry
theorem q1416 : (Jvm.Cond.instantiable "java/lang/IllegalStateException" (6 : Nat)) ∈ lw_all := sorry
theorem q1417 : (Jvm.Cond.castable "java/lang/IllegalStateException" "java/lang/IllegalStateException") ∈ lw_tbl := sorry
theorem q1418 : (Jvm.Cond.selects "java/lang/IllegalStateException" ({ cls := "java/lang/Throwable", name := "fillInStackTrace", desc := "(I)Ljava/lang/Throwable;" } : Jvm.MethodName) ({ cls := "java/lang/Throwable", name := "fillInStackTrace", desc := "(I)Ljava/lang/Throwable;" } : Jvm.MethodName)) ∈ lw_all := sorry
theorem q1419 : (Jvm.Cond.lays "java/lang/IllegalStateException" "java/lang/Throwable" "cause" "Ljava/lang/Throwable;") ∈ lw_all := sorry
theorem q1420 : (Jvm.Cond.lays "java/lang/IllegalStateException" "java/lang/Throwable" "stackTrace" "[Ljava/lang/StackTraceElement;") ∈ lw_all := sorry
theorem q1421 : (Jvm.Cond.lays "java/lang/IllegalStateException" "java/lang/Throwable" "suppressedExceptions" "Ljava/util/List;") ∈ lw_all := sorry
theorem q1422 : (Jvm.Cond.lays "java/lang/IllegalStateException" "java/lang/Throwable" "detailMessage" "Ljava/lang/String;") ∈ lw_all := sorry
theorem q1423 : (Jvm.Cond.lays "java/lang/IllegalStateException" "java/lang/Throwable" "backtrace" "Ljava/lang/Object;") ∈ lw_all := sorry
theorem q1426 : (Jvm.Cond.instanceMethod ({ cls := "java/lang/IllegalStateException", name := "<init>", desc := "(Ljava/lang/String;)V" } : Jvm.MethodName)) ∈ lw_all := sorry
theorem q1427 : (Jvm.Cond.code ({ cls := "java/lang/IllegalStateException", name := "<init>", desc := "(Ljava/lang/String;)V" } : Jvm.MethodName) prog_26_method_2_code (2 : Nat) (Option.none : Option Jvm.ClassFile.FieldType)) ∈ lw_all := sorry
theorem q1428 : (Jvm.Cond.methodLink "java/lang/IllegalStateException" (7 : Nat) ({ cls := "java/lang/RuntimeException", name := "<init>", desc := "(Ljava/lang/String;)V" } : Jvm.MethodName)) ∈ lw_all := sorry
theorem q1429 : (Jvm.Cond.lays "java/lang/IllegalStateException" "java/lang/Throwable" "depth" "I") ∈ lw_all := sorry
theorem q1430 : (Jvm.Cond.superclass "java/lang/IllegalStateException" "java/lang/RuntimeException") ∈ lw_all := sorry
theorem q1473 : (Jvm.Cond.instanceMethod ({ cls := "java/lang/IllegalStateException", name := "<init>", desc := "()V" } : Jvm.MethodName)) ∈ lw_all := sorry
theorem q1474 : (Jvm.Cond.code ({ cls := "java/lang/IllegalStateException", name := "<init>", desc := "()V" } : Jvm.MethodName) prog_26_method_1_code (1 : Nat) (Option.none : Option Jvm.ClassFile.FieldType)) ∈ lw_all := sorry
theorem q1475 : (Jvm.Cond.methodLink "java/lang/IllegalStateException" (1 : Nat) ({ cls := "java/lang/RuntimeException", name := "<init>", desc := "()V" } : Jvm.MethodName)) ∈ lw_all := sorry
theorem q2653 : (Jvm.Cond.castable "java/lang/IllegalStateException" "java/lang/Object") ∈ lw_tbl := sorry
theorem in_J22 : ∀ w ∈ wsJ220, w ∈ lw_all := sorry
/-! java/lang/IndexOutOfBoundsException -/
set_option maxRecDepth 100000
def RJ23 : String := "java/lang/IndexOutOfBoundsException"
def TJ23 : u_T := fun k => match k with
  | 0 => ("java/lang/Throwable", "cause", "Ljava/lang/Throwable;", false)
  | 1 => ("java/lang/Throwable", "stackTrace", "[Ljava/lang/StackTraceElement;", false)
  | 2 => ("java/lang/Throwable", "suppressedExceptions", "Ljava/util/List;", false)
  | 3 => ("java/lang/Throwable", "detailMessage", "Ljava/lang/String;", false)
  | 4 => ("java/lang/Throwable", "backtrace", "Ljava/lang/Object;", false)
  | _ => ("java/lang/Throwable", "depth", "I", false)
def tyJ23 : Nat → FieldType := fun k => match k with
  | 0 => .object "java/lang/Throwable"
  | 1 => .array (.object "java/lang/StackTraceElement")
  | 2 => .object "java/util/List"
  | 3 => .object "java/lang/String"
  | 4 => .object "java/lang/Object"
  | _ => .int
abbrev wsJ230 : List Cond := u_ws RJ23 TJ23 6
theorem nmJ23 : ∀ a, a < 6 → ∀ b, b < 6 → a ≠ b → (TJ23 a).2.1 ≠ (TJ23 b).2.1 := sorry
theorem tyJ23_ok : ∀ k, k < 6 → parseFieldDescriptor (TJ23 k).2.2.1 = some (tyJ23 k) := sorry
abbrev cJ23_init : ByteArray := prog_27_method_1_code
def yJ23_init : MethodName := ⟨RJ23, "<init>", "()V"⟩
theorem dJ23_init_0 : decode cJ23_init 0 = .ok (.aload_n 0, 1) := sorry
theorem dJ23_init_1 : decode cJ23_init 1 = .ok (.invokespecial 1, 3) := sorry
theorem dJ23_init_4 : decode cJ23_init 4 = .ok (.return_, 1) := sorry
abbrev cJ23_init_2 : ByteArray := prog_27_method_2_code
def yJ23_init_2 : MethodName := ⟨RJ23, "<init>", "(Ljava/lang/String;)V"⟩
def dkwJ23_init_2_0 : List UInt8 := [42, 43, 183, 0, 7, 177]
abbrev dktJ23_init_2_0 : List UInt8 := dkwJ23_init_2_0 ++ []
theorem dksJ23_init_2_0 : cJ23_init_2.data.toList.drop 0 = dktJ23_init_2_0 := sorry
theorem dJ23_init_2_0 : decode cJ23_init_2 0 = .ok (.aload_n 0, 1) := sorry
theorem dJ23_init_2_1 : decode cJ23_init_2 1 = .ok (.aload_n 1, 1) := sorry
theorem dJ23_init_2_2 : decode cJ23_init_2 2 = .ok (.invokespecial 7, 3) := sorry
theorem dJ23_init_2_5 : decode cJ23_init_2 5 = .ok (.return_, 1) := sorry
theorem q117 : (Jvm.Cond.initialized "java/lang/IndexOutOfBoundsException") ∈ lw_all := sorry
theorem q217 : (Jvm.Cond.selects "java/lang/IndexOutOfBoundsException" ({ cls := "java/lang/Throwable", name := "fillInStackTrace", desc := "()Ljava/lang/Throwable;" } : Jvm.MethodName) ({ cls := "java/lang/Throwable", name := "fillInStackTrace", desc := "()Ljava/lang/Throwable;" } : Jvm.MethodName)) ∈ lw_all := sorry
theorem q983 : (Jvm.Cond.instantiable "java/lang/IndexOutOfBoundsException" (6 : Nat)) ∈ lw_all := sorry
theorem q984 : (Jvm.Cond.castable "java/lang/IndexOutOfBoundsException" "java/lang/IndexOutOfBoundsException") ∈ lw_tbl := sorry
theorem q985 : (Jvm.Cond.selects "java/lang/IndexOutOfBoundsException" ({ cls := "java/lang/Throwable", name := "fillInStackTrace", desc := "(I)Ljava/lang/Throwable;" } : Jvm.MethodName) ({ cls := "java/lang/Throwable", name := "fillInStackTrace", desc := "(I)Ljava/lang/Throwable;" } : Jvm.MethodName)) ∈ lw_all := sorry
theorem q986 : (Jvm.Cond.lays "java/lang/IndexOutOfBoundsException" "java/lang/Throwable" "cause" "Ljava/lang/Throwable;") ∈ lw_all := sorry
theorem q987 : (Jvm.Cond.lays "java/lang/IndexOutOfBoundsException" "java/lang/Throwable" "stackTrace" "[Ljava/lang/StackTraceElement;") ∈ lw_all := sorry
theorem q988 : (Jvm.Cond.lays "java/lang/IndexOutOfBoundsException" "java/lang/Throwable" "suppressedExceptions" "Ljava/util/List;") ∈ lw_all := sorry
theorem q989 : (Jvm.Cond.lays "java/lang/IndexOutOfBoundsException" "java/lang/Throwable" "detailMessage" "Ljava/lang/String;") ∈ lw_all := sorry
theorem q990 : (Jvm.Cond.lays "java/lang/IndexOutOfBoundsException" "java/lang/Throwable" "backtrace" "Ljava/lang/Object;") ∈ lw_all := sorry
theorem q992 : (Jvm.Cond.instanceMethod ({ cls := "java/lang/IndexOutOfBoundsException", name := "<init>", desc := "()V" } : Jvm.MethodName)) ∈ lw_all := sorry
theorem q993 : (Jvm.Cond.code ({ cls := "java/lang/IndexOutOfBoundsException", name := "<init>", desc := "()V" } : Jvm.MethodName) prog_27_method_1_code (1 : Nat) (Option.none : Option Jvm.ClassFile.FieldType)) ∈ lw_all := sorry
theorem q994 : (Jvm.Cond.methodLink "java/lang/IndexOutOfBoundsException" (1 : Nat) ({ cls := "java/lang/RuntimeException", name := "<init>", desc := "()V" } : Jvm.MethodName)) ∈ lw_all := sorry
theorem q995 : (Jvm.Cond.lays "java/lang/IndexOutOfBoundsException" "java/lang/Throwable" "depth" "I") ∈ lw_all := sorry
theorem q996 : (Jvm.Cond.superclass "java/lang/IndexOutOfBoundsException" "java/lang/RuntimeException") ∈ lw_all := sorry
theorem q1303 : (Jvm.Cond.selects "java/lang/IndexOutOfBoundsException" ({ cls := "java/lang/Object", name := "getClass", desc := "()Ljava/lang/Class;" } : Jvm.MethodName) ({ cls := "java/lang/Object", name := "getClass", desc := "()Ljava/lang/Class;" } : Jvm.MethodName)) ∈ lw_all := sorry
theorem q1446 : (Jvm.Cond.instanceMethod ({ cls := "java/lang/IndexOutOfBoundsException", name := "<init>", desc := "(Ljava/lang/String;)V" } : Jvm.MethodName)) ∈ lw_all := sorry
theorem q1447 : (Jvm.Cond.code ({ cls := "java/lang/IndexOutOfBoundsException", name := "<init>", desc := "(Ljava/lang/String;)V" } : Jvm.MethodName) prog_27_method_2_code (2 : Nat) (Option.none : Option Jvm.ClassFile.FieldType)) ∈ lw_all := sorry
theorem q1448 : (Jvm.Cond.methodLink "java/lang/IndexOutOfBoundsException" (7 : Nat) ({ cls := "java/lang/RuntimeException", name := "<init>", desc := "(Ljava/lang/String;)V" } : Jvm.MethodName)) ∈ lw_all := sorry
theorem q1457 : (Jvm.Cond.declares ({ cls := "java/lang/IndexOutOfBoundsException", name := "<init>", desc := "()V" } : Jvm.MethodName)) ∈ lw_tbl := sorry
theorem q1458 : (Jvm.Cond.declares ({ cls := "java/lang/IndexOutOfBoundsException", name := "<init>", desc := "(Ljava/lang/String;)V" } : Jvm.MethodName)) ∈ lw_tbl := sorry
theorem q2655 : (Jvm.Cond.castable "java/lang/IndexOutOfBoundsException" "java/lang/Object") ∈ lw_tbl := sorry
theorem in_J23 : ∀ w ∈ wsJ230, w ∈ lw_all := sorry
/-! java/lang/ArrayIndexOutOfBoundsException -/
set_option maxRecDepth 100000
def RJ24 : String := "java/lang/ArrayIndexOutOfBoundsException"
def TJ24 : u_T := fun k => match k with
  | 0 => ("java/lang/Throwable", "backtrace", "Ljava/lang/Object;", false)
  | 1 => ("java/lang/Throwable", "detailMessage", "Ljava/lang/String;", false)
  | 2 => ("java/lang/Throwable", "cause", "Ljava/lang/Throwable;", false)
  | 3 => ("java/lang/Throwable", "stackTrace", "[Ljava/lang/StackTraceElement;", false)
  | 4 => ("java/lang/Throwable", "depth", "I", false)
  | _ => ("java/lang/Throwable", "suppressedExceptions", "Ljava/util/List;", false)
def tyJ24 : Nat → FieldType := fun k => match k with
  | 0 => .object "java/lang/Object"
  | 1 => .object "java/lang/String"
  | 2 => .object "java/lang/Throwable"
  | 3 => .array (.object "java/lang/StackTraceElement")
  | 4 => .int
  | _ => .object "java/util/List"
abbrev wsJ240 : List Cond := u_ws RJ24 TJ24 6
theorem nmJ24 : ∀ a, a < 6 → ∀ b, b < 6 → a ≠ b → (TJ24 a).2.1 ≠ (TJ24 b).2.1 := sorry
theorem tyJ24_ok : ∀ k, k < 6 → parseFieldDescriptor (TJ24 k).2.2.1 = some (tyJ24 k) := sorry
abbrev cJ24_init : ByteArray := prog_20_method_2_code
def yJ24_init : MethodName := ⟨RJ24, "<init>", "(Ljava/lang/String;)V"⟩
def dkwJ24_init_0 : List UInt8 := [42, 43, 183, 0, 7, 177]
abbrev dktJ24_init_0 : List UInt8 := dkwJ24_init_0 ++ []
theorem dksJ24_init_0 : cJ24_init.data.toList.drop 0 = dktJ24_init_0 := sorry
theorem dJ24_init_0 : decode cJ24_init 0 = .ok (.aload_n 0, 1) := sorry
theorem dJ24_init_1 : decode cJ24_init 1 = .ok (.aload_n 1, 1) := sorry
theorem dJ24_init_2 : decode cJ24_init 2 = .ok (.invokespecial 7, 3) := sorry
theorem dJ24_init_5 : decode cJ24_init 5 = .ok (.return_, 1) := sorry
abbrev cJ24_init_2 : ByteArray := prog_20_method_3_code
def yJ24_init_2 : MethodName := ⟨RJ24, "<init>", "(I)V"⟩
def dkwJ24_init_2_0 : List UInt8 := [42, 187, 0, 10, 89, 183, 0, 12, 18, 13, 182, 0, 15, 27, 182, 0, 19, 182, 0, 22, 183, 0, 7, 177]
abbrev dktJ24_init_2_0 : List UInt8 := dkwJ24_init_2_0 ++ []
theorem dksJ24_init_2_0 : cJ24_init_2.data.toList.drop 0 = dktJ24_init_2_0 := sorry
theorem dJ24_init_2_0 : decode cJ24_init_2 0 = .ok (.aload_n 0, 1) := sorry
theorem dJ24_init_2_1 : decode cJ24_init_2 1 = .ok (.new 10, 3) := sorry
theorem dJ24_init_2_4 : decode cJ24_init_2 4 = .ok (.dup, 1) := sorry
theorem dJ24_init_2_5 : decode cJ24_init_2 5 = .ok (.invokespecial 12, 3) := sorry
theorem dJ24_init_2_8 : decode cJ24_init_2 8 = .ok (.ldc 13, 2) := sorry
theorem dJ24_init_2_10 : decode cJ24_init_2 10 = .ok (.invokevirtual 15, 3) := sorry
theorem dJ24_init_2_13 : decode cJ24_init_2 13 = .ok (.iload_n 1, 1) := sorry
theorem dJ24_init_2_14 : decode cJ24_init_2 14 = .ok (.invokevirtual 19, 3) := sorry
theorem dJ24_init_2_17 : decode cJ24_init_2 17 = .ok (.invokevirtual 22, 3) := sorry
theorem dJ24_init_2_20 : decode cJ24_init_2 20 = .ok (.invokespecial 7, 3) := sorry
theorem dJ24_init_2_23 : decode cJ24_init_2 23 = .ok (.return_, 1) := sorry
theorem q118 : (Jvm.Cond.initialized "java/lang/ArrayIndexOutOfBoundsException") ∈ lw_all := sorry
theorem q215 : (Jvm.Cond.selects "java/lang/ArrayIndexOutOfBoundsException" ({ cls := "java/lang/Throwable", name := "fillInStackTrace", desc := "()Ljava/lang/Throwable;" } : Jvm.MethodName) ({ cls := "java/lang/Throwable", name := "fillInStackTrace", desc := "()Ljava/lang/Throwable;" } : Jvm.MethodName)) ∈ lw_all := sorry
theorem q1300 : (Jvm.Cond.selects "java/lang/ArrayIndexOutOfBoundsException" ({ cls := "java/lang/Object", name := "getClass", desc := "()Ljava/lang/Class;" } : Jvm.MethodName) ({ cls := "java/lang/Object", name := "getClass", desc := "()Ljava/lang/Class;" } : Jvm.MethodName)) ∈ lw_all := sorry
theorem q1442 : (Jvm.Cond.instantiable "java/lang/ArrayIndexOutOfBoundsException" (6 : Nat)) ∈ lw_all := sorry
theorem q1443 : (Jvm.Cond.instanceMethod ({ cls := "java/lang/ArrayIndexOutOfBoundsException", name := "<init>", desc := "(Ljava/lang/String;)V" } : Jvm.MethodName)) ∈ lw_all := sorry
theorem q1444 : (Jvm.Cond.code ({ cls := "java/lang/ArrayIndexOutOfBoundsException", name := "<init>", desc := "(Ljava/lang/String;)V" } : Jvm.MethodName) prog_20_method_2_code (2 : Nat) (Option.none : Option Jvm.ClassFile.FieldType)) ∈ lw_all := sorry
theorem q1445 : (Jvm.Cond.methodLink "java/lang/ArrayIndexOutOfBoundsException" (7 : Nat) ({ cls := "java/lang/IndexOutOfBoundsException", name := "<init>", desc := "(Ljava/lang/String;)V" } : Jvm.MethodName)) ∈ lw_all := sorry
theorem q1449 : (Jvm.Cond.lays "java/lang/ArrayIndexOutOfBoundsException" "java/lang/Throwable" "backtrace" "Ljava/lang/Object;") ∈ lw_all := sorry
theorem q1450 : (Jvm.Cond.lays "java/lang/ArrayIndexOutOfBoundsException" "java/lang/Throwable" "detailMessage" "Ljava/lang/String;") ∈ lw_all := sorry
theorem q1451 : (Jvm.Cond.lays "java/lang/ArrayIndexOutOfBoundsException" "java/lang/Throwable" "cause" "Ljava/lang/Throwable;") ∈ lw_all := sorry
theorem q1452 : (Jvm.Cond.lays "java/lang/ArrayIndexOutOfBoundsException" "java/lang/Throwable" "stackTrace" "[Ljava/lang/StackTraceElement;") ∈ lw_all := sorry
theorem q1453 : (Jvm.Cond.lays "java/lang/ArrayIndexOutOfBoundsException" "java/lang/Throwable" "depth" "I") ∈ lw_all := sorry
theorem q1454 : (Jvm.Cond.lays "java/lang/ArrayIndexOutOfBoundsException" "java/lang/Throwable" "suppressedExceptions" "Ljava/util/List;") ∈ lw_all := sorry
theorem q1455 : (Jvm.Cond.superclass "java/lang/ArrayIndexOutOfBoundsException" "java/lang/IndexOutOfBoundsException") ∈ lw_all := sorry
theorem q1456 : (Jvm.Cond.castable "java/lang/ArrayIndexOutOfBoundsException" "java/lang/ArrayIndexOutOfBoundsException") ∈ lw_tbl := sorry
theorem q1459 : (Jvm.Cond.selects "java/lang/ArrayIndexOutOfBoundsException" ({ cls := "java/lang/Throwable", name := "fillInStackTrace", desc := "(I)Ljava/lang/Throwable;" } : Jvm.MethodName) ({ cls := "java/lang/Throwable", name := "fillInStackTrace", desc := "(I)Ljava/lang/Throwable;" } : Jvm.MethodName)) ∈ lw_all := sorry
theorem q1998 : (Jvm.Cond.instanceMethod ({ cls := "java/lang/ArrayIndexOutOfBoundsException", name := "<init>", desc := "(I)V" } : Jvm.MethodName)) ∈ lw_all := sorry
theorem q1999 : (Jvm.Cond.code ({ cls := "java/lang/ArrayIndexOutOfBoundsException", name := "<init>", desc := "(I)V" } : Jvm.MethodName) prog_20_method_3_code (2 : Nat) (Option.none : Option Jvm.ClassFile.FieldType)) ∈ lw_all := sorry
theorem q2000 : (Jvm.Cond.classLink "java/lang/ArrayIndexOutOfBoundsException" (10 : Nat) "java/lang/StringBuilder") ∈ lw_all := sorry
theorem q2001 : (Jvm.Cond.methodLink "java/lang/ArrayIndexOutOfBoundsException" (12 : Nat) ({ cls := "java/lang/StringBuilder", name := "<init>", desc := "()V" } : Jvm.MethodName)) ∈ lw_all := sorry
theorem q2002 : (Jvm.Cond.stringRef "java/lang/ArrayIndexOutOfBoundsException" (13 : Nat) "Array index out of range: ") ∈ lw_tbl := sorry
theorem q2003 : (Jvm.Cond.methodLink "java/lang/ArrayIndexOutOfBoundsException" (15 : Nat) ({ cls := "java/lang/StringBuilder", name := "append", desc := "(Ljava/lang/String;)Ljava/lang/StringBuilder;" } : Jvm.MethodName)) ∈ lw_all := sorry
theorem q2004 : (Jvm.Cond.methodLink "java/lang/ArrayIndexOutOfBoundsException" (19 : Nat) ({ cls := "java/lang/StringBuilder", name := "append", desc := "(I)Ljava/lang/StringBuilder;" } : Jvm.MethodName)) ∈ lw_all := sorry
theorem q2005 : (Jvm.Cond.methodLink "java/lang/ArrayIndexOutOfBoundsException" (22 : Nat) ({ cls := "java/lang/StringBuilder", name := "toString", desc := "()Ljava/lang/String;" } : Jvm.MethodName)) ∈ lw_all := sorry
theorem q2631 : (Jvm.Cond.castable "java/lang/ArrayIndexOutOfBoundsException" "java/lang/IndexOutOfBoundsException") ∈ lw_tbl := sorry
theorem q2654 : (Jvm.Cond.castable "java/lang/ArrayIndexOutOfBoundsException" "java/lang/Object") ∈ lw_tbl := sorry
theorem in_J24 : ∀ w ∈ wsJ240, w ∈ lw_all := sorry
/-! java/lang/StringIndexOutOfBoundsException -/
set_option maxRecDepth 100000
def RJ25 : String := "java/lang/StringIndexOutOfBoundsException"
def TJ25 : u_T := fun k => match k with
  | 0 => ("java/lang/Throwable", "backtrace", "Ljava/lang/Object;", false)
  | 1 => ("java/lang/Throwable", "detailMessage", "Ljava/lang/String;", false)
  | 2 => ("java/lang/Throwable", "cause", "Ljava/lang/Throwable;", false)
  | 3 => ("java/lang/Throwable", "stackTrace", "[Ljava/lang/StackTraceElement;", false)
  | 4 => ("java/lang/Throwable", "depth", "I", false)
  | _ => ("java/lang/Throwable", "suppressedExceptions", "Ljava/util/List;", false)
def tyJ25 : Nat → FieldType := fun k => match k with
  | 0 => .object "java/lang/Object"
  | 1 => .object "java/lang/String"
  | 2 => .object "java/lang/Throwable"
  | 3 => .array (.object "java/lang/StackTraceElement")
  | 4 => .int
  | _ => .object "java/util/List"
abbrev wsJ250 : List Cond := u_ws RJ25 TJ25 6
theorem nmJ25 : ∀ a, a < 6 → ∀ b, b < 6 → a ≠ b → (TJ25 a).2.1 ≠ (TJ25 b).2.1 := sorry
theorem tyJ25_ok : ∀ k, k < 6 → parseFieldDescriptor (TJ25 k).2.2.1 = some (tyJ25 k) := sorry
abbrev cJ25_init : ByteArray := prog_36_method_3_code
def yJ25_init : MethodName := ⟨RJ25, "<init>", "(I)V"⟩
def dkwJ25_init_0 : List UInt8 := [42, 187, 0, 10, 89, 183, 0, 12, 18, 13, 182, 0, 15, 27, 182, 0, 19, 182, 0, 22, 183, 0, 7, 177]
abbrev dktJ25_init_0 : List UInt8 := dkwJ25_init_0 ++ []
theorem dksJ25_init_0 : cJ25_init.data.toList.drop 0 = dktJ25_init_0 := sorry
theorem dJ25_init_0 : decode cJ25_init 0 = .ok (.aload_n 0, 1) := sorry
theorem dJ25_init_1 : decode cJ25_init 1 = .ok (.new 10, 3) := sorry
theorem dJ25_init_4 : decode cJ25_init 4 = .ok (.dup, 1) := sorry
theorem dJ25_init_5 : decode cJ25_init 5 = .ok (.invokespecial 12, 3) := sorry
theorem dJ25_init_8 : decode cJ25_init 8 = .ok (.ldc 13, 2) := sorry
theorem dJ25_init_10 : decode cJ25_init 10 = .ok (.invokevirtual 15, 3) := sorry
theorem dJ25_init_13 : decode cJ25_init 13 = .ok (.iload_n 1, 1) := sorry
theorem dJ25_init_14 : decode cJ25_init 14 = .ok (.invokevirtual 19, 3) := sorry
theorem dJ25_init_17 : decode cJ25_init 17 = .ok (.invokevirtual 22, 3) := sorry
theorem dJ25_init_20 : decode cJ25_init 20 = .ok (.invokespecial 7, 3) := sorry
theorem dJ25_init_23 : decode cJ25_init 23 = .ok (.return_, 1) := sorry
theorem q126 : (Jvm.Cond.initialized "java/lang/StringIndexOutOfBoundsException") ∈ lw_all := sorry
theorem q218 : (Jvm.Cond.selects "java/lang/StringIndexOutOfBoundsException" ({ cls := "java/lang/Throwable", name := "fillInStackTrace", desc := "()Ljava/lang/Throwable;" } : Jvm.MethodName) ({ cls := "java/lang/Throwable", name := "fillInStackTrace", desc := "()Ljava/lang/Throwable;" } : Jvm.MethodName)) ∈ lw_all := sorry
theorem q1307 : (Jvm.Cond.selects "java/lang/StringIndexOutOfBoundsException" ({ cls := "java/lang/Object", name := "getClass", desc := "()Ljava/lang/Class;" } : Jvm.MethodName) ({ cls := "java/lang/Object", name := "getClass", desc := "()Ljava/lang/Class;" } : Jvm.MethodName)) ∈ lw_all := sorry
theorem q1966 : (Jvm.Cond.instantiable "java/lang/StringIndexOutOfBoundsException" (6 : Nat)) ∈ lw_all := sorry
theorem q1968 : (Jvm.Cond.instanceMethod ({ cls := "java/lang/StringIndexOutOfBoundsException", name := "<init>", desc := "(I)V" } : Jvm.MethodName)) ∈ lw_all := sorry
theorem q1969 : (Jvm.Cond.code ({ cls := "java/lang/StringIndexOutOfBoundsException", name := "<init>", desc := "(I)V" } : Jvm.MethodName) prog_36_method_3_code (2 : Nat) (Option.none : Option Jvm.ClassFile.FieldType)) ∈ lw_all := sorry
theorem q1970 : (Jvm.Cond.classLink "java/lang/StringIndexOutOfBoundsException" (10 : Nat) "java/lang/StringBuilder") ∈ lw_all := sorry
theorem q1971 : (Jvm.Cond.methodLink "java/lang/StringIndexOutOfBoundsException" (12 : Nat) ({ cls := "java/lang/StringBuilder", name := "<init>", desc := "()V" } : Jvm.MethodName)) ∈ lw_all := sorry
theorem q1972 : (Jvm.Cond.stringRef "java/lang/StringIndexOutOfBoundsException" (13 : Nat) "String index out of range: ") ∈ lw_tbl := sorry
theorem q1973 : (Jvm.Cond.methodLink "java/lang/StringIndexOutOfBoundsException" (15 : Nat) ({ cls := "java/lang/StringBuilder", name := "append", desc := "(Ljava/lang/String;)Ljava/lang/StringBuilder;" } : Jvm.MethodName)) ∈ lw_all := sorry
theorem q1974 : (Jvm.Cond.methodLink "java/lang/StringIndexOutOfBoundsException" (19 : Nat) ({ cls := "java/lang/StringBuilder", name := "append", desc := "(I)Ljava/lang/StringBuilder;" } : Jvm.MethodName)) ∈ lw_all := sorry
theorem q1975 : (Jvm.Cond.methodLink "java/lang/StringIndexOutOfBoundsException" (22 : Nat) ({ cls := "java/lang/StringBuilder", name := "toString", desc := "()Ljava/lang/String;" } : Jvm.MethodName)) ∈ lw_all := sorry
theorem q1976 : (Jvm.Cond.methodLink "java/lang/StringIndexOutOfBoundsException" (7 : Nat) ({ cls := "java/lang/IndexOutOfBoundsException", name := "<init>", desc := "(Ljava/lang/String;)V" } : Jvm.MethodName)) ∈ lw_all := sorry
theorem q1977 : (Jvm.Cond.lays "java/lang/StringIndexOutOfBoundsException" "java/lang/Throwable" "backtrace" "Ljava/lang/Object;") ∈ lw_all := sorry
theorem q1978 : (Jvm.Cond.lays "java/lang/StringIndexOutOfBoundsException" "java/lang/Throwable" "detailMessage" "Ljava/lang/String;") ∈ lw_all := sorry
theorem q1979 : (Jvm.Cond.lays "java/lang/StringIndexOutOfBoundsException" "java/lang/Throwable" "cause" "Ljava/lang/Throwable;") ∈ lw_all := sorry
theorem q1980 : (Jvm.Cond.lays "java/lang/StringIndexOutOfBoundsException" "java/lang/Throwable" "stackTrace" "[Ljava/lang/StackTraceElement;") ∈ lw_all := sorry
theorem q1981 : (Jvm.Cond.lays "java/lang/StringIndexOutOfBoundsException" "java/lang/Throwable" "depth" "I") ∈ lw_all := sorry
theorem q1982 : (Jvm.Cond.lays "java/lang/StringIndexOutOfBoundsException" "java/lang/Throwable" "suppressedExceptions" "Ljava/util/List;") ∈ lw_all := sorry
theorem q1983 : (Jvm.Cond.superclass "java/lang/StringIndexOutOfBoundsException" "java/lang/IndexOutOfBoundsException") ∈ lw_all := sorry
theorem q2632 : (Jvm.Cond.castable "java/lang/StringIndexOutOfBoundsException" "java/lang/IndexOutOfBoundsException") ∈ lw_tbl := sorry
theorem q2663 : (Jvm.Cond.castable "java/lang/StringIndexOutOfBoundsException" "java/lang/Object") ∈ lw_tbl := sorry
theorem in_J25 : ∀ w ∈ wsJ250, w ∈ lw_all := sorry
/-! java/lang/Object -/
set_option maxRecDepth 100000
def RJ26 : String := "java/lang/Object"
abbrev cJ26_init : ByteArray := object_method_1_code
def yJ26_init : MethodName := ⟨RJ26, "<init>", "()V"⟩
theorem dJ26_init_0 : decode cJ26_init 0 = .ok (.return_, 1) := sorry
theorem q133 : (Jvm.Cond.instanceMethod ({ cls := "java/lang/Object", name := "<init>", desc := "()V" } : Jvm.MethodName)) ∈ lw_all := sorry
theorem q134 : (Jvm.Cond.code ({ cls := "java/lang/Object", name := "<init>", desc := "()V" } : Jvm.MethodName) object_method_1_code (1 : Nat) (Option.none : Option Jvm.ClassFile.FieldType)) ∈ lw_all := sorry
theorem q294 : (Jvm.Cond.native ({ cls := "java/lang/Object", name := "clone", desc := "()Ljava/lang/Object;" } : Jvm.MethodName)) ∈ lw_all := sorry
theorem q295 : (Jvm.Cond.instanceMethod ({ cls := "java/lang/Object", name := "clone", desc := "()Ljava/lang/Object;" } : Jvm.MethodName)) ∈ lw_all := sorry
theorem q1284 : (Jvm.Cond.instanceMethod ({ cls := "java/lang/Object", name := "getClass", desc := "()Ljava/lang/Class;" } : Jvm.MethodName)) ∈ lw_all := sorry
theorem q1285 : (Jvm.Cond.sameMethod "java/lang/Object" "java/lang/Object" "getClass" "()Ljava/lang/Class;") ∈ lw_all := sorry
theorem q1313 : (Jvm.Cond.native ({ cls := "java/lang/Object", name := "getClass", desc := "()Ljava/lang/Class;" } : Jvm.MethodName)) ∈ lw_all := sorry
theorem q2667 : (Jvm.Cond.declares ({ cls := "java/lang/Object", name := "getClass", desc := "()Ljava/lang/Class;" } : Jvm.MethodName)) ∈ lw_tbl := sorry
/-! java/lang/System$2 -/
set_option maxRecDepth 100000
def RJ27 : String := "java/lang/System$2"
abbrev cJ27_getUTF16Char : ByteArray := prog_40_method_45_code
def yJ27_getUTF16Char : MethodName := ⟨RJ27, "getUTF16Char", "([BI)C"⟩
def dkwJ27_getUTF16Char_0 : List UInt8 := [43, 28, 184, 0, 185, 172]
abbrev dktJ27_getUTF16Char_0 : List UInt8 := dkwJ27_getUTF16Char_0 ++ []
theorem dksJ27_getUTF16Char_0 : cJ27_getUTF16Char.data.toList.drop 0 = dktJ27_getUTF16Char_0 := sorry
theorem dJ27_getUTF16Char_0 : decode cJ27_getUTF16Char 0 = .ok (.aload_n 1, 1) := sorry
theorem dJ27_getUTF16Char_1 : decode cJ27_getUTF16Char 1 = .ok (.iload_n 2, 1) := sorry
theorem dJ27_getUTF16Char_2 : decode cJ27_getUTF16Char 2 = .ok (.invokestatic 185, 3) := sorry
theorem dJ27_getUTF16Char_5 : decode cJ27_getUTF16Char 5 = .ok (.ireturn, 1) := sorry
theorem q1118 : (Jvm.Cond.castable "java/lang/System$2" "jdk/internal/access/JavaLangAccess") ∈ lw_tbl := sorry
theorem q1119 : (Jvm.Cond.selects "java/lang/System$2" ({ cls := "jdk/internal/access/JavaLangAccess", name := "getUTF16Char", desc := "([BI)C" } : Jvm.MethodName) ({ cls := "java/lang/System$2", name := "getUTF16Char", desc := "([BI)C" } : Jvm.MethodName)) ∈ lw_all := sorry
theorem q1120 : (Jvm.Cond.unhidden "java/lang/System$2" "getUTF16Char" "([BI)C") ∈ lw_tbl := sorry
theorem q1121 : (Jvm.Cond.instanceMethod ({ cls := "java/lang/System$2", name := "getUTF16Char", desc := "([BI)C" } : Jvm.MethodName)) ∈ lw_all := sorry
theorem q1122 : (Jvm.Cond.publicMethod ({ cls := "java/lang/System$2", name := "getUTF16Char", desc := "([BI)C" } : Jvm.MethodName)) ∈ lw_tbl := sorry
theorem q1123 : (Jvm.Cond.code ({ cls := "java/lang/System$2", name := "getUTF16Char", desc := "([BI)C" } : Jvm.MethodName) prog_40_method_45_code (3 : Nat) (Option.some Jvm.ClassFile.FieldType.char)) ∈ lw_all := sorry
theorem q1124 : (Jvm.Cond.methodLink "java/lang/System$2" (185 : Nat) ({ cls := "java/lang/StringUTF16", name := "getChar", desc := "([BI)C" } : Jvm.MethodName)) ∈ lw_all := sorry
theorem q1308 : (Jvm.Cond.selects "java/lang/System$2" ({ cls := "java/lang/Object", name := "getClass", desc := "()Ljava/lang/Class;" } : Jvm.MethodName) ({ cls := "java/lang/Object", name := "getClass", desc := "()Ljava/lang/Class;" } : Jvm.MethodName)) ∈ lw_all := sorry
theorem q2647 : (Jvm.Cond.castable "java/lang/System$2" "java/lang/Object") ∈ lw_tbl := sorry
theorem q293 : (Jvm.Cond.sameMethod "[B" "java/lang/Object" "clone" "()Ljava/lang/Object;") ∈ lw_all := sorry
set_option maxRecDepth 100000
theorem q296 : (Jvm.Cond.selects "[B" ({ cls := "[B", name := "clone", desc := "()Ljava/lang/Object;" } : Jvm.MethodName) ({ cls := "java/lang/Object", name := "clone", desc := "()Ljava/lang/Object;" } : Jvm.MethodName)) ∈ lw_all := sorry
theorem q297 : (Jvm.Cond.castable "[B" "java/lang/Cloneable") ∈ lw_tbl := sorry
theorem q2669 : (Jvm.Cond.castable "[B" "java/lang/Object") ∈ lw_tbl := sorry
theorem q2670 : (Jvm.Cond.castable "[I" "java/lang/Object") ∈ lw_tbl := sorry
set_option maxRecDepth 100000

theorem q2671 : (Jvm.Cond.castable "[J" "java/lang/Object") ∈ lw_tbl := sorry
set_option maxRecDepth 100000

theorem q2665 : (Jvm.Cond.sameMethod "[Ljava/lang/Object;" "java/lang/Object" "getClass" "()Ljava/lang/Class;") ∈ lw_all := sorry
set_option maxRecDepth 100000
theorem q2666 : (Jvm.Cond.selects "[Ljava/lang/Object;" ({ cls := "java/lang/Object", name := "getClass", desc := "()Ljava/lang/Class;" } : Jvm.MethodName) ({ cls := "java/lang/Object", name := "getClass", desc := "()Ljava/lang/Class;" } : Jvm.MethodName)) ∈ lw_all := sorry
theorem q2668 : (Jvm.Cond.castable "[Ljava/lang/Object;" "java/lang/Object") ∈ lw_tbl := sorry
theorem q2672 : (Jvm.Cond.castable "[Z" "java/lang/Object") ∈ lw_tbl := sorry
set_option maxRecDepth 100000

theorem q115 : (Jvm.Cond.initialized "java/lang/Integer$IntegerCache") ∈ lw_all := sorry
set_option maxRecDepth 100000
theorem q839 : (Jvm.Cond.laysStatic "java/lang/Integer$IntegerCache" "high" "I") ∈ lw_tbl := sorry
theorem q841 : (Jvm.Cond.laysStatic "java/lang/Integer$IntegerCache" "cache" "[Ljava/lang/Integer;") ∈ lw_tbl := sorry
theorem q101 : (Jvm.Cond.initialized "java/lang/System") ∈ lw_all := sorry
set_option maxRecDepth 100000
theorem q303 : (Jvm.Cond.static ({ cls := "java/lang/System", name := "arraycopy", desc := "(Ljava/lang/Object;ILjava/lang/Object;II)V" } : Jvm.MethodName)) ∈ lw_all := sorry
theorem q304 : (Jvm.Cond.native ({ cls := "java/lang/System", name := "arraycopy", desc := "(Ljava/lang/Object;ILjava/lang/Object;II)V" } : Jvm.MethodName)) ∈ lw_all := sorry
theorem q761 : (Jvm.Cond.interfaceMethod "java/util/Iterator" "java/util/Iterator" "hasNext" "()Z") ∈ lw_tbl := sorry
set_option maxRecDepth 100000
theorem q762 : (Jvm.Cond.declares ({ cls := "java/util/Iterator", name := "hasNext", desc := "()Z" } : Jvm.MethodName)) ∈ lw_tbl := sorry
theorem q777 : (Jvm.Cond.interfaceMethod "java/util/Iterator" "java/util/Iterator" "next" "()Ljava/lang/Object;") ∈ lw_tbl := sorry
theorem q778 : (Jvm.Cond.declares ({ cls := "java/util/Iterator", name := "next", desc := "()Ljava/lang/Object;" } : Jvm.MethodName)) ∈ lw_tbl := sorry
theorem q1116 : (Jvm.Cond.interfaceMethod "jdk/internal/access/JavaLangAccess" "jdk/internal/access/JavaLangAccess" "getUTF16Char" "([BI)C") ∈ lw_tbl := sorry
set_option maxRecDepth 100000
theorem q1117 : (Jvm.Cond.declares ({ cls := "jdk/internal/access/JavaLangAccess", name := "getUTF16Char", desc := "([BI)C" } : Jvm.MethodName)) ∈ lw_tbl := sorry
theorem q145 : (Jvm.Cond.arrayOver (Jvm.ClassFile.FieldType.object "java/lang/Object")) ∈ lw_tbl := sorry
set_option maxRecDepth 100000
theorem q158 : (Jvm.Cond.arrayClass Jvm.ClassFile.FieldType.byte) ∈ lw_all := sorry
theorem q638 : (Jvm.Cond.arrayClass Jvm.ClassFile.FieldType.int) ∈ lw_all := sorry
theorem q2139 : (Jvm.Cond.arrayClass Jvm.ClassFile.FieldType.long) ∈ lw_all := sorry
theorem q2140 : (Jvm.Cond.arrayClass Jvm.ClassFile.FieldType.boolean) ∈ lw_all := sorry
theorem q2673 : (Jvm.Cond.arrayClass Jvm.ClassFile.FieldType.char) ∈ lw_all := sorry
theorem q2674 : (Jvm.Cond.arrayClass Jvm.ClassFile.FieldType.short) ∈ lw_all := sorry
