/-! LabelDriver -/
set_option maxRecDepth 100000
def RX1 : String := "LabelDriver"
def TX1 : u_T := fun k => match k with
  | 0 => ("LabelDriver", "tape", "[B", true)
  | 1 => ("LabelDriver", "taped", "I", false)
  | 2 => ("LabelDriver", "errorOffset", "I", false)
  | 3 => ("LabelDriver", "errorKind", "I", false)
  | 4 => ("LabelDriver", "settings", "LLabelDriver$Settings;", false)
  | 5 => ("LabelDriver", "state", "LLabelDriver$State;", false)
  | 6 => ("LabelDriver", "past", "Ljava/util/ArrayDeque;", true)
  | _ => ("LabelDriver", "formatted", "Ljava/lang/StringBuilder;", true)
def tyX1 : Nat → FieldType := fun k => match k with
  | 0 => .array .byte
  | 1 => .int
  | 2 => .int
  | 3 => .int
  | 4 => .object "LabelDriver$Settings"
  | 5 => .object "LabelDriver$State"
  | 6 => .object "java/util/ArrayDeque"
  | _ => .object "java/lang/StringBuilder"
abbrev wsX10 : List Cond := u_ws RX1 TX1 8
theorem nmX1 : ∀ a, a < 8 → ∀ b, b < 8 → a ≠ b → (TX1 a).2.1 ≠ (TX1 b).2.1 := sorry
theorem tyX1_ok : ∀ k, k < 8 → parseFieldDescriptor (TX1 k).2.2.1 = some (tyX1 k) := sorry
abbrev cX1_init : ByteArray := prog_1_method_7_code
def yX1_init : MethodName := ⟨RX1, "<init>", "()V"⟩
def dkwX1_init_2 : List UInt8 := [181, 0, 50, 42, 187, 0, 54, 89, 42, 183, 0, 56, 181, 0, 59, 177]
abbrev dktX1_init_2 : List UInt8 := dkwX1_init_2 ++ []
def dkwX1_init_1 : List UInt8 := [42, 2, 181, 0, 36, 42, 187, 0, 40, 89, 183, 0, 42, 181, 0, 43, 42, 187, 0, 47, 89, 183, 0, 49]
abbrev dktX1_init_1 : List UInt8 := dkwX1_init_1 ++ dktX1_init_2
def dkwX1_init_0 : List UInt8 := [42, 183, 0, 22, 42, 17, 2, 88, 188, 8, 181, 0, 25, 42, 187, 0, 29, 89, 183, 0, 31, 181, 0, 32]
abbrev dktX1_init_0 : List UInt8 := dkwX1_init_0 ++ dktX1_init_1
theorem dksX1_init_0 : cX1_init.data.toList.drop 0 = dktX1_init_0 := sorry
theorem dksX1_init_1 : cX1_init.data.toList.drop 24 = dktX1_init_1 := sorry
theorem dksX1_init_2 : cX1_init.data.toList.drop 48 = dktX1_init_2 := sorry
theorem dX1_init_0 : decode cX1_init 0 = .ok (.aload_n 0, 1) := sorry
theorem dX1_init_1 : decode cX1_init 1 = .ok (.invokespecial 22, 3) := sorry
theorem dX1_init_4 : decode cX1_init 4 = .ok (.aload_n 0, 1) := sorry
theorem dX1_init_5 : decode cX1_init 5 = .ok (.sipush 600, 3) := sorry
theorem dX1_init_8 : decode cX1_init 8 = .ok (.newarray .byte, 2) := sorry
theorem dX1_init_10 : decode cX1_init 10 = .ok (.putfield 25, 3) := sorry
theorem dX1_init_13 : decode cX1_init 13 = .ok (.aload_n 0, 1) := sorry
theorem dX1_init_14 : decode cX1_init 14 = .ok (.new 29, 3) := sorry
theorem dX1_init_17 : decode cX1_init 17 = .ok (.dup, 1) := sorry
theorem dX1_init_18 : decode cX1_init 18 = .ok (.invokespecial 31, 3) := sorry
theorem dX1_init_21 : decode cX1_init 21 = .ok (.putfield 32, 3) := sorry
theorem dX1_init_24 : decode cX1_init 24 = .ok (.aload_n 0, 1) := sorry
theorem dX1_init_25 : decode cX1_init 25 = .ok (.iconst (-1), 1) := sorry
theorem dX1_init_26 : decode cX1_init 26 = .ok (.putfield 36, 3) := sorry
theorem dX1_init_29 : decode cX1_init 29 = .ok (.aload_n 0, 1) := sorry
theorem dX1_init_30 : decode cX1_init 30 = .ok (.new 40, 3) := sorry
theorem dX1_init_33 : decode cX1_init 33 = .ok (.dup, 1) := sorry
theorem dX1_init_34 : decode cX1_init 34 = .ok (.invokespecial 42, 3) := sorry
theorem dX1_init_37 : decode cX1_init 37 = .ok (.putfield 43, 3) := sorry
theorem dX1_init_40 : decode cX1_init 40 = .ok (.aload_n 0, 1) := sorry
theorem dX1_init_41 : decode cX1_init 41 = .ok (.new 47, 3) := sorry
theorem dX1_init_44 : decode cX1_init 44 = .ok (.dup, 1) := sorry
theorem dX1_init_45 : decode cX1_init 45 = .ok (.invokespecial 49, 3) := sorry
theorem dX1_init_48 : decode cX1_init 48 = .ok (.putfield 50, 3) := sorry
theorem dX1_init_51 : decode cX1_init 51 = .ok (.aload_n 0, 1) := sorry
theorem dX1_init_52 : decode cX1_init 52 = .ok (.new 54, 3) := sorry
theorem dX1_init_55 : decode cX1_init 55 = .ok (.dup, 1) := sorry
theorem dX1_init_56 : decode cX1_init 56 = .ok (.aload_n 0, 1) := sorry
theorem dX1_init_57 : decode cX1_init 57 = .ok (.invokespecial 56, 3) := sorry
theorem dX1_init_60 : decode cX1_init 60 = .ok (.putfield 59, 3) := sorry
theorem dX1_init_63 : decode cX1_init 63 = .ok (.return_, 1) := sorry
abbrev cX1_append : ByteArray := prog_1_method_8_code
def yX1_append : MethodName := ⟨RX1, "append", "(IIIII)I"⟩
def dkwX1_append_4 : List UInt8 := [16, 20, 96, 181, 0, 63, 42, 180, 0, 63, 172]
abbrev dktX1_append_4 : List UInt8 := dkwX1_append_4 ++ []
def dkwX1_append_3 : List UInt8 := [16, 24, 16, 8, 21, 7, 7, 112, 104, 100, 124, 145, 84, 132, 7, 1, 167, 255, 215, 42, 89, 180, 0, 63]
abbrev dktX1_append_3 : List UInt8 := dkwX1_append_3 ++ dktX1_append_4
def dkwX1_append_2 : List UInt8 := [16, 20, 162, 0, 40, 42, 180, 0, 25, 42, 180, 0, 63, 21, 7, 96, 25, 6, 21, 7, 7, 108, 46]
abbrev dktX1_append_2 : List UInt8 := dkwX1_append_2 ++ dktX1_append_3
def dkwX1_append_1 : List UInt8 := [28, 79, 89, 5, 29, 79, 89, 6, 21, 4, 79, 89, 7, 21, 5, 79, 58, 6, 3, 54, 7, 21, 7]
abbrev dktX1_append_1 : List UInt8 := dkwX1_append_1 ++ dktX1_append_2
def dkwX1_append_0 : List UInt8 := [42, 180, 0, 63, 16, 20, 96, 17, 2, 88, 164, 0, 5, 2, 172, 8, 188, 10, 89, 3, 27, 79, 89, 4]
abbrev dktX1_append_0 : List UInt8 := dkwX1_append_0 ++ dktX1_append_1
theorem dksX1_append_0 : cX1_append.data.toList.drop 0 = dktX1_append_0 := sorry
theorem dksX1_append_1 : cX1_append.data.toList.drop 24 = dktX1_append_1 := sorry
theorem dksX1_append_2 : cX1_append.data.toList.drop 47 = dktX1_append_2 := sorry
theorem dksX1_append_3 : cX1_append.data.toList.drop 70 = dktX1_append_3 := sorry
theorem dksX1_append_4 : cX1_append.data.toList.drop 94 = dktX1_append_4 := sorry
theorem dX1_append_0 : decode cX1_append 0 = .ok (.aload_n 0, 1) := sorry
theorem dX1_append_1 : decode cX1_append 1 = .ok (.getfield 63, 3) := sorry
theorem dX1_append_4 : decode cX1_append 4 = .ok (.bipush 20, 2) := sorry
theorem dX1_append_6 : decode cX1_append 6 = .ok (.iadd, 1) := sorry
theorem dX1_append_7 : decode cX1_append 7 = .ok (.sipush 600, 3) := sorry
theorem dX1_append_10 : decode cX1_append 10 = .ok (.if_icmp .le 5, 3) := sorry
theorem dX1_append_13 : decode cX1_append 13 = .ok (.iconst (-1), 1) := sorry
theorem dX1_append_14 : decode cX1_append 14 = .ok (.ireturn, 1) := sorry
theorem dX1_append_15 : decode cX1_append 15 = .ok (.iconst 5, 1) := sorry
theorem dX1_append_16 : decode cX1_append 16 = .ok (.newarray .int, 2) := sorry
theorem dX1_append_18 : decode cX1_append 18 = .ok (.dup, 1) := sorry
theorem dX1_append_19 : decode cX1_append 19 = .ok (.iconst 0, 1) := sorry
theorem dX1_append_20 : decode cX1_append 20 = .ok (.iload_n 1, 1) := sorry
theorem dX1_append_21 : decode cX1_append 21 = .ok (.iastore, 1) := sorry
theorem dX1_append_22 : decode cX1_append 22 = .ok (.dup, 1) := sorry
theorem dX1_append_23 : decode cX1_append 23 = .ok (.iconst 1, 1) := sorry
theorem dX1_append_24 : decode cX1_append 24 = .ok (.iload_n 2, 1) := sorry
theorem dX1_append_25 : decode cX1_append 25 = .ok (.iastore, 1) := sorry
theorem dX1_append_26 : decode cX1_append 26 = .ok (.dup, 1) := sorry
theorem dX1_append_27 : decode cX1_append 27 = .ok (.iconst 2, 1) := sorry
theorem dX1_append_28 : decode cX1_append 28 = .ok (.iload_n 3, 1) := sorry
theorem dX1_append_29 : decode cX1_append 29 = .ok (.iastore, 1) := sorry
theorem dX1_append_30 : decode cX1_append 30 = .ok (.dup, 1) := sorry
theorem dX1_append_31 : decode cX1_append 31 = .ok (.iconst 3, 1) := sorry
theorem dX1_append_32 : decode cX1_append 32 = .ok (.iload 4, 2) := sorry
theorem dX1_append_34 : decode cX1_append 34 = .ok (.iastore, 1) := sorry
theorem dX1_append_35 : decode cX1_append 35 = .ok (.dup, 1) := sorry
theorem dX1_append_36 : decode cX1_append 36 = .ok (.iconst 4, 1) := sorry
theorem dX1_append_37 : decode cX1_append 37 = .ok (.iload 5, 2) := sorry
theorem dX1_append_39 : decode cX1_append 39 = .ok (.iastore, 1) := sorry
theorem dX1_append_40 : decode cX1_append 40 = .ok (.astore 6, 2) := sorry
theorem dX1_append_42 : decode cX1_append 42 = .ok (.iconst 0, 1) := sorry
theorem dX1_append_43 : decode cX1_append 43 = .ok (.istore 7, 2) := sorry
theorem dX1_append_45 : decode cX1_append 45 = .ok (.iload 7, 2) := sorry
theorem dX1_append_47 : decode cX1_append 47 = .ok (.bipush 20, 2) := sorry
theorem dX1_append_49 : decode cX1_append 49 = .ok (.if_icmp .ge 40, 3) := sorry
theorem dX1_append_52 : decode cX1_append 52 = .ok (.aload_n 0, 1) := sorry
theorem dX1_append_53 : decode cX1_append 53 = .ok (.getfield 25, 3) := sorry
theorem dX1_append_56 : decode cX1_append 56 = .ok (.aload_n 0, 1) := sorry
theorem dX1_append_57 : decode cX1_append 57 = .ok (.getfield 63, 3) := sorry
theorem dX1_append_60 : decode cX1_append 60 = .ok (.iload 7, 2) := sorry
theorem dX1_append_62 : decode cX1_append 62 = .ok (.iadd, 1) := sorry
theorem dX1_append_63 : decode cX1_append 63 = .ok (.aload 6, 2) := sorry
theorem dX1_append_65 : decode cX1_append 65 = .ok (.iload 7, 2) := sorry
theorem dX1_append_67 : decode cX1_append 67 = .ok (.iconst 4, 1) := sorry
theorem dX1_append_68 : decode cX1_append 68 = .ok (.idiv, 1) := sorry
theorem dX1_append_69 : decode cX1_append 69 = .ok (.iaload, 1) := sorry
theorem dX1_append_70 : decode cX1_append 70 = .ok (.bipush 24, 2) := sorry
theorem dX1_append_72 : decode cX1_append 72 = .ok (.bipush 8, 2) := sorry
theorem dX1_append_74 : decode cX1_append 74 = .ok (.iload 7, 2) := sorry
theorem dX1_append_76 : decode cX1_append 76 = .ok (.iconst 4, 1) := sorry
theorem dX1_append_77 : decode cX1_append 77 = .ok (.irem, 1) := sorry
theorem dX1_append_78 : decode cX1_append 78 = .ok (.imul, 1) := sorry
theorem dX1_append_79 : decode cX1_append 79 = .ok (.isub, 1) := sorry
theorem dX1_append_80 : decode cX1_append 80 = .ok (.iushr, 1) := sorry
theorem dX1_append_81 : decode cX1_append 81 = .ok (.i2b, 1) := sorry
theorem dX1_append_82 : decode cX1_append 82 = .ok (.bastore, 1) := sorry
theorem dX1_append_83 : decode cX1_append 83 = .ok (.iinc 7 1, 3) := sorry
theorem dX1_append_86 : decode cX1_append 86 = .ok (.goto (-41), 3) := sorry
theorem dX1_append_89 : decode cX1_append 89 = .ok (.aload_n 0, 1) := sorry
theorem dX1_append_90 : decode cX1_append 90 = .ok (.dup, 1) := sorry
theorem dX1_append_91 : decode cX1_append 91 = .ok (.getfield 63, 3) := sorry
theorem dX1_append_94 : decode cX1_append 94 = .ok (.bipush 20, 2) := sorry
theorem dX1_append_96 : decode cX1_append 96 = .ok (.iadd, 1) := sorry
theorem dX1_append_97 : decode cX1_append 97 = .ok (.putfield 63, 3) := sorry
theorem dX1_append_100 : decode cX1_append 100 = .ok (.aload_n 0, 1) := sorry
theorem dX1_append_101 : decode cX1_append 101 = .ok (.getfield 63, 3) := sorry
theorem dX1_append_104 : decode cX1_append 104 = .ok (.ireturn, 1) := sorry
abbrev cX1_truncate : ByteArray := prog_1_method_9_code
def yX1_truncate : MethodName := ⟨RX1, "truncate", "(I)Z"⟩
def dkwX1_truncate_0 : List UInt8 := [27, 133, 9, 42, 180, 0, 63, 133, 184, 0, 10, 154, 0, 5, 3, 172, 42, 27, 181, 0, 63, 4, 172]
abbrev dktX1_truncate_0 : List UInt8 := dkwX1_truncate_0 ++ []
theorem dksX1_truncate_0 : cX1_truncate.data.toList.drop 0 = dktX1_truncate_0 := sorry
theorem dX1_truncate_0 : decode cX1_truncate 0 = .ok (.iload_n 1, 1) := sorry
theorem dX1_truncate_1 : decode cX1_truncate 1 = .ok (.i2l, 1) := sorry
theorem dX1_truncate_2 : decode cX1_truncate 2 = .ok (.lconst 0, 1) := sorry
theorem dX1_truncate_3 : decode cX1_truncate 3 = .ok (.aload_n 0, 1) := sorry
theorem dX1_truncate_4 : decode cX1_truncate 4 = .ok (.getfield 63, 3) := sorry
theorem dX1_truncate_7 : decode cX1_truncate 7 = .ok (.i2l, 1) := sorry
theorem dX1_truncate_8 : decode cX1_truncate 8 = .ok (.invokestatic 10, 3) := sorry
theorem dX1_truncate_11 : decode cX1_truncate 11 = .ok (.ifCond .ne 5, 3) := sorry
theorem dX1_truncate_14 : decode cX1_truncate 14 = .ok (.iconst 0, 1) := sorry
theorem dX1_truncate_15 : decode cX1_truncate 15 = .ok (.ireturn, 1) := sorry
theorem dX1_truncate_16 : decode cX1_truncate 16 = .ok (.aload_n 0, 1) := sorry
theorem dX1_truncate_17 : decode cX1_truncate 17 = .ok (.iload_n 1, 1) := sorry
theorem dX1_truncate_18 : decode cX1_truncate 18 = .ok (.putfield 63, 3) := sorry
theorem dX1_truncate_21 : decode cX1_truncate 21 = .ok (.iconst 1, 1) := sorry
theorem dX1_truncate_22 : decode cX1_truncate 22 = .ok (.ireturn, 1) := sorry
abbrev cX1_in : ByteArray := prog_1_method_1_code
def yX1_in : MethodName := ⟨RX1, "in", "(JJJ)Z"⟩
def dkwX1_in_0 : List UInt8 := [30, 32, 148, 155, 0, 14, 30, 22, 4, 148, 157, 0, 7, 4, 167, 0, 4, 3, 172]
abbrev dktX1_in_0 : List UInt8 := dkwX1_in_0 ++ []
theorem dksX1_in_0 : cX1_in.data.toList.drop 0 = dktX1_in_0 := sorry
theorem dX1_in_0 : decode cX1_in 0 = .ok (.lload_n 0, 1) := sorry
theorem dX1_in_1 : decode cX1_in 1 = .ok (.lload_n 2, 1) := sorry
theorem dX1_in_2 : decode cX1_in 2 = .ok (.lcmp, 1) := sorry
theorem dX1_in_3 : decode cX1_in 3 = .ok (.ifCond .lt 14, 3) := sorry
theorem dX1_in_6 : decode cX1_in 6 = .ok (.lload_n 0, 1) := sorry
theorem dX1_in_7 : decode cX1_in 7 = .ok (.lload 4, 2) := sorry
theorem dX1_in_9 : decode cX1_in 9 = .ok (.lcmp, 1) := sorry
theorem dX1_in_10 : decode cX1_in 10 = .ok (.ifCond .gt 7, 3) := sorry
theorem dX1_in_13 : decode cX1_in 13 = .ok (.iconst 1, 1) := sorry
theorem dX1_in_14 : decode cX1_in 14 = .ok (.goto 4, 3) := sorry
theorem dX1_in_17 : decode cX1_in 17 = .ok (.iconst 0, 1) := sorry
theorem dX1_in_18 : decode cX1_in 18 = .ok (.ireturn, 1) := sorry
abbrev cX1_errorOffset : ByteArray := prog_1_method_11_code
def yX1_errorOffset : MethodName := ⟨RX1, "errorOffset", "()I"⟩
theorem dX1_errorOffset_0 : decode cX1_errorOffset 0 = .ok (.aload_n 0, 1) := sorry
theorem dX1_errorOffset_1 : decode cX1_errorOffset 1 = .ok (.getfield 36, 3) := sorry
theorem dX1_errorOffset_4 : decode cX1_errorOffset 4 = .ok (.ireturn, 1) := sorry
abbrev cX1_errorKind : ByteArray := prog_1_method_12_code
def yX1_errorKind : MethodName := ⟨RX1, "errorKind", "()I"⟩
theorem dX1_errorKind_0 : decode cX1_errorKind 0 = .ok (.aload_n 0, 1) := sorry
theorem dX1_errorKind_1 : decode cX1_errorKind 1 = .ok (.getfield 82, 3) := sorry
theorem dX1_errorKind_4 : decode cX1_errorKind 4 = .ok (.ireturn, 1) := sorry
abbrev cX1_ribbonLeft : ByteArray := prog_1_method_19_code
def yX1_ribbonLeft : MethodName := ⟨RX1, "ribbonLeft", "()I"⟩
def dkwX1_ribbonLeft_0 : List UInt8 := [42, 180, 0, 59, 180, 0, 187, 172]
abbrev dktX1_ribbonLeft_0 : List UInt8 := dkwX1_ribbonLeft_0 ++ []
theorem dksX1_ribbonLeft_0 : cX1_ribbonLeft.data.toList.drop 0 = dktX1_ribbonLeft_0 := sorry
theorem dX1_ribbonLeft_0 : decode cX1_ribbonLeft 0 = .ok (.aload_n 0, 1) := sorry
theorem dX1_ribbonLeft_1 : decode cX1_ribbonLeft 1 = .ok (.getfield 59, 3) := sorry
theorem dX1_ribbonLeft_4 : decode cX1_ribbonLeft 4 = .ok (.getfield 187, 3) := sorry
theorem dX1_ribbonLeft_7 : decode cX1_ribbonLeft 7 = .ok (.ireturn, 1) := sorry
abbrev cX1_isReady : ByteArray := prog_1_method_28_code
def yX1_isReady : MethodName := ⟨RX1, "isReady", "()Z"⟩
def dkwX1_isReady_0 : List UInt8 := [42, 180, 0, 59, 180, 0, 121, 172]
abbrev dktX1_isReady_0 : List UInt8 := dkwX1_isReady_0 ++ []
theorem dksX1_isReady_0 : cX1_isReady.data.toList.drop 0 = dktX1_isReady_0 := sorry
theorem dX1_isReady_0 : decode cX1_isReady 0 = .ok (.aload_n 0, 1) := sorry
theorem dX1_isReady_1 : decode cX1_isReady 1 = .ok (.getfield 59, 3) := sorry
theorem dX1_isReady_4 : decode cX1_isReady 4 = .ok (.getfield 121, 3) := sorry
theorem dX1_isReady_7 : decode cX1_isReady 7 = .ok (.ireturn, 1) := sorry
abbrev cX1_lastShift : ByteArray := prog_1_method_34_code
def yX1_lastShift : MethodName := ⟨RX1, "lastShift", "()I"⟩
def dkwX1_lastShift_0 : List UInt8 := [42, 180, 0, 59, 180, 0, 157, 172]
abbrev dktX1_lastShift_0 : List UInt8 := dkwX1_lastShift_0 ++ []
theorem dksX1_lastShift_0 : cX1_lastShift.data.toList.drop 0 = dktX1_lastShift_0 := sorry
theorem dX1_lastShift_0 : decode cX1_lastShift 0 = .ok (.aload_n 0, 1) := sorry
theorem dX1_lastShift_1 : decode cX1_lastShift 1 = .ok (.getfield 59, 3) := sorry
theorem dX1_lastShift_4 : decode cX1_lastShift 4 = .ok (.getfield 157, 3) := sorry
theorem dX1_lastShift_7 : decode cX1_lastShift 7 = .ok (.ireturn, 1) := sorry
abbrev cX1_mostAttempts : ByteArray := prog_1_method_45_code
def yX1_mostAttempts : MethodName := ⟨RX1, "mostAttempts", "()I"⟩
def dkwX1_mostAttempts_4 : List UInt8 := [28, 104, 29, 96, 60, 132, 3, 1, 167, 255, 175, 132, 2, 1, 167, 255, 153, 27, 172]
abbrev dktX1_mostAttempts_4 : List UInt8 := dkwX1_mostAttempts_4 ++ []
def dkwX1_mostAttempts_3 : List UInt8 := [180, 0, 59, 180, 1, 51, 16, 40, 27, 16, 100, 108, 104, 27, 16, 100, 112, 96, 46, 164, 0, 10, 16, 100]
abbrev dktX1_mostAttempts_3 : List UInt8 := dkwX1_mostAttempts_3 ++ dktX1_mostAttempts_4
def dkwX1_mostAttempts_2 : List UInt8 := [180, 1, 51, 16, 40, 28, 104, 29, 96, 46, 54, 4, 21, 4, 27, 2, 160, 0, 7, 3, 167, 0, 23, 42]
abbrev dktX1_mostAttempts_2 : List UInt8 := dkwX1_mostAttempts_2 ++ dktX1_mostAttempts_3
def dkwX1_mostAttempts_1 : List UInt8 := [180, 0, 43, 180, 0, 91, 28, 182, 1, 12, 192, 1, 16, 180, 1, 22, 162, 0, 66, 42, 180, 0, 59]
abbrev dktX1_mostAttempts_1 : List UInt8 := dkwX1_mostAttempts_1 ++ dktX1_mostAttempts_2
def dkwX1_mostAttempts_0 : List UInt8 := [2, 60, 3, 61, 28, 42, 180, 0, 43, 180, 0, 91, 182, 0, 95, 162, 0, 95, 3, 62, 29, 42]
abbrev dktX1_mostAttempts_0 : List UInt8 := dkwX1_mostAttempts_0 ++ dktX1_mostAttempts_1
theorem dksX1_mostAttempts_0 : cX1_mostAttempts.data.toList.drop 0 = dktX1_mostAttempts_0 := sorry
theorem dksX1_mostAttempts_1 : cX1_mostAttempts.data.toList.drop 22 = dktX1_mostAttempts_1 := sorry
theorem dksX1_mostAttempts_2 : cX1_mostAttempts.data.toList.drop 45 = dktX1_mostAttempts_2 := sorry
theorem dksX1_mostAttempts_3 : cX1_mostAttempts.data.toList.drop 69 = dktX1_mostAttempts_3 := sorry
theorem dksX1_mostAttempts_4 : cX1_mostAttempts.data.toList.drop 93 = dktX1_mostAttempts_4 := sorry
theorem dX1_mostAttempts_0 : decode cX1_mostAttempts 0 = .ok (.iconst (-1), 1) := sorry
theorem dX1_mostAttempts_1 : decode cX1_mostAttempts 1 = .ok (.istore_n 1, 1) := sorry
theorem dX1_mostAttempts_2 : decode cX1_mostAttempts 2 = .ok (.iconst 0, 1) := sorry
theorem dX1_mostAttempts_3 : decode cX1_mostAttempts 3 = .ok (.istore_n 2, 1) := sorry
theorem dX1_mostAttempts_4 : decode cX1_mostAttempts 4 = .ok (.iload_n 2, 1) := sorry
theorem dX1_mostAttempts_5 : decode cX1_mostAttempts 5 = .ok (.aload_n 0, 1) := sorry
theorem dX1_mostAttempts_6 : decode cX1_mostAttempts 6 = .ok (.getfield 43, 3) := sorry
theorem dX1_mostAttempts_9 : decode cX1_mostAttempts 9 = .ok (.getfield 91, 3) := sorry
theorem dX1_mostAttempts_12 : decode cX1_mostAttempts 12 = .ok (.invokevirtual 95, 3) := sorry
theorem dX1_mostAttempts_15 : decode cX1_mostAttempts 15 = .ok (.if_icmp .ge 95, 3) := sorry
theorem dX1_mostAttempts_18 : decode cX1_mostAttempts 18 = .ok (.iconst 0, 1) := sorry
theorem dX1_mostAttempts_19 : decode cX1_mostAttempts 19 = .ok (.istore_n 3, 1) := sorry
theorem dX1_mostAttempts_20 : decode cX1_mostAttempts 20 = .ok (.iload_n 3, 1) := sorry
theorem dX1_mostAttempts_21 : decode cX1_mostAttempts 21 = .ok (.aload_n 0, 1) := sorry
theorem dX1_mostAttempts_22 : decode cX1_mostAttempts 22 = .ok (.getfield 43, 3) := sorry
theorem dX1_mostAttempts_25 : decode cX1_mostAttempts 25 = .ok (.getfield 91, 3) := sorry
theorem dX1_mostAttempts_28 : decode cX1_mostAttempts 28 = .ok (.iload_n 2, 1) := sorry
theorem dX1_mostAttempts_29 : decode cX1_mostAttempts 29 = .ok (.invokevirtual 268, 3) := sorry
theorem dX1_mostAttempts_32 : decode cX1_mostAttempts 32 = .ok (.checkcast 272, 3) := sorry
theorem dX1_mostAttempts_35 : decode cX1_mostAttempts 35 = .ok (.getfield 278, 3) := sorry
theorem dX1_mostAttempts_38 : decode cX1_mostAttempts 38 = .ok (.if_icmp .ge 66, 3) := sorry
theorem dX1_mostAttempts_41 : decode cX1_mostAttempts 41 = .ok (.aload_n 0, 1) := sorry
theorem dX1_mostAttempts_42 : decode cX1_mostAttempts 42 = .ok (.getfield 59, 3) := sorry
theorem dX1_mostAttempts_45 : decode cX1_mostAttempts 45 = .ok (.getfield 307, 3) := sorry
theorem dX1_mostAttempts_48 : decode cX1_mostAttempts 48 = .ok (.bipush 40, 2) := sorry
theorem dX1_mostAttempts_50 : decode cX1_mostAttempts 50 = .ok (.iload_n 2, 1) := sorry
theorem dX1_mostAttempts_51 : decode cX1_mostAttempts 51 = .ok (.imul, 1) := sorry
theorem dX1_mostAttempts_52 : decode cX1_mostAttempts 52 = .ok (.iload_n 3, 1) := sorry
theorem dX1_mostAttempts_53 : decode cX1_mostAttempts 53 = .ok (.iadd, 1) := sorry
theorem dX1_mostAttempts_54 : decode cX1_mostAttempts 54 = .ok (.iaload, 1) := sorry
theorem dX1_mostAttempts_55 : decode cX1_mostAttempts 55 = .ok (.istore 4, 2) := sorry
theorem dX1_mostAttempts_57 : decode cX1_mostAttempts 57 = .ok (.iload 4, 2) := sorry
theorem dX1_mostAttempts_59 : decode cX1_mostAttempts 59 = .ok (.iload_n 1, 1) := sorry
theorem dX1_mostAttempts_60 : decode cX1_mostAttempts 60 = .ok (.iconst (-1), 1) := sorry
theorem dX1_mostAttempts_61 : decode cX1_mostAttempts 61 = .ok (.if_icmp .ne 7, 3) := sorry
theorem dX1_mostAttempts_64 : decode cX1_mostAttempts 64 = .ok (.iconst 0, 1) := sorry
theorem dX1_mostAttempts_65 : decode cX1_mostAttempts 65 = .ok (.goto 23, 3) := sorry
theorem dX1_mostAttempts_68 : decode cX1_mostAttempts 68 = .ok (.aload_n 0, 1) := sorry
theorem dX1_mostAttempts_69 : decode cX1_mostAttempts 69 = .ok (.getfield 59, 3) := sorry
theorem dX1_mostAttempts_72 : decode cX1_mostAttempts 72 = .ok (.getfield 307, 3) := sorry
theorem dX1_mostAttempts_75 : decode cX1_mostAttempts 75 = .ok (.bipush 40, 2) := sorry
theorem dX1_mostAttempts_77 : decode cX1_mostAttempts 77 = .ok (.iload_n 1, 1) := sorry
theorem dX1_mostAttempts_78 : decode cX1_mostAttempts 78 = .ok (.bipush 100, 2) := sorry
theorem dX1_mostAttempts_80 : decode cX1_mostAttempts 80 = .ok (.idiv, 1) := sorry
theorem dX1_mostAttempts_81 : decode cX1_mostAttempts 81 = .ok (.imul, 1) := sorry
theorem dX1_mostAttempts_82 : decode cX1_mostAttempts 82 = .ok (.iload_n 1, 1) := sorry
theorem dX1_mostAttempts_83 : decode cX1_mostAttempts 83 = .ok (.bipush 100, 2) := sorry
theorem dX1_mostAttempts_85 : decode cX1_mostAttempts 85 = .ok (.irem, 1) := sorry
theorem dX1_mostAttempts_86 : decode cX1_mostAttempts 86 = .ok (.iadd, 1) := sorry
theorem dX1_mostAttempts_87 : decode cX1_mostAttempts 87 = .ok (.iaload, 1) := sorry
theorem dX1_mostAttempts_88 : decode cX1_mostAttempts 88 = .ok (.if_icmp .le 10, 3) := sorry
theorem dX1_mostAttempts_91 : decode cX1_mostAttempts 91 = .ok (.bipush 100, 2) := sorry
theorem dX1_mostAttempts_93 : decode cX1_mostAttempts 93 = .ok (.iload_n 2, 1) := sorry
theorem dX1_mostAttempts_94 : decode cX1_mostAttempts 94 = .ok (.imul, 1) := sorry
theorem dX1_mostAttempts_95 : decode cX1_mostAttempts 95 = .ok (.iload_n 3, 1) := sorry
theorem dX1_mostAttempts_96 : decode cX1_mostAttempts 96 = .ok (.iadd, 1) := sorry
theorem dX1_mostAttempts_97 : decode cX1_mostAttempts 97 = .ok (.istore_n 1, 1) := sorry
theorem dX1_mostAttempts_98 : decode cX1_mostAttempts 98 = .ok (.iinc 3 1, 3) := sorry
theorem dX1_mostAttempts_101 : decode cX1_mostAttempts 101 = .ok (.goto (-81), 3) := sorry
theorem dX1_mostAttempts_104 : decode cX1_mostAttempts 104 = .ok (.iinc 2 1, 3) := sorry
theorem dX1_mostAttempts_107 : decode cX1_mostAttempts 107 = .ok (.goto (-103), 3) := sorry
theorem dX1_mostAttempts_110 : decode cX1_mostAttempts 110 = .ok (.iload_n 1, 1) := sorry
theorem dX1_mostAttempts_111 : decode cX1_mostAttempts 111 = .ok (.ireturn, 1) := sorry
abbrev cX1_reprints : ByteArray := prog_1_method_46_code
def yX1_reprints : MethodName := ⟨RX1, "reprints", "()I"⟩
def dkwX1_reprints_0 : List UInt8 := [42, 180, 0, 59, 180, 1, 57, 182, 0, 101, 172]
abbrev dktX1_reprints_0 : List UInt8 := dkwX1_reprints_0 ++ []
theorem dksX1_reprints_0 : cX1_reprints.data.toList.drop 0 = dktX1_reprints_0 := sorry
theorem dX1_reprints_0 : decode cX1_reprints 0 = .ok (.aload_n 0, 1) := sorry
theorem dX1_reprints_1 : decode cX1_reprints 1 = .ok (.getfield 59, 3) := sorry
theorem dX1_reprints_4 : decode cX1_reprints 4 = .ok (.getfield 313, 3) := sorry
theorem dX1_reprints_7 : decode cX1_reprints 7 = .ok (.invokevirtual 101, 3) := sorry
theorem dX1_reprints_10 : decode cX1_reprints 10 = .ok (.ireturn, 1) := sorry
abbrev cX1_reprint : ByteArray := prog_1_method_47_code
def yX1_reprint : MethodName := ⟨RX1, "reprint", "(I)I"⟩
def dkwX1_reprint_2 : List UInt8 := [167, 255, 223, 2, 172]
abbrev dktX1_reprint_2 : List UInt8 := dkwX1_reprint_2 ++ []
def dkwX1_reprint_1 : List UInt8 := [185, 0, 254, 1, 0, 192, 1, 64, 58, 4, 28, 132, 2, 255, 154, 0, 9, 25, 4, 182, 1, 66, 172]
abbrev dktX1_reprint_1 : List UInt8 := dkwX1_reprint_1 ++ dktX1_reprint_2
def dkwX1_reprint_0 : List UInt8 := [27, 61, 42, 180, 0, 59, 180, 1, 57, 182, 1, 60, 78, 45, 185, 0, 248, 1, 0, 153, 0, 30, 45]
abbrev dktX1_reprint_0 : List UInt8 := dkwX1_reprint_0 ++ dktX1_reprint_1
theorem dksX1_reprint_0 : cX1_reprint.data.toList.drop 0 = dktX1_reprint_0 := sorry
theorem dksX1_reprint_1 : cX1_reprint.data.toList.drop 23 = dktX1_reprint_1 := sorry
theorem dksX1_reprint_2 : cX1_reprint.data.toList.drop 46 = dktX1_reprint_2 := sorry
theorem dX1_reprint_0 : decode cX1_reprint 0 = .ok (.iload_n 1, 1) := sorry
theorem dX1_reprint_1 : decode cX1_reprint 1 = .ok (.istore_n 2, 1) := sorry
theorem dX1_reprint_2 : decode cX1_reprint 2 = .ok (.aload_n 0, 1) := sorry
theorem dX1_reprint_3 : decode cX1_reprint 3 = .ok (.getfield 59, 3) := sorry
theorem dX1_reprint_6 : decode cX1_reprint 6 = .ok (.getfield 313, 3) := sorry
theorem dX1_reprint_9 : decode cX1_reprint 9 = .ok (.invokevirtual 316, 3) := sorry
theorem dX1_reprint_12 : decode cX1_reprint 12 = .ok (.astore_n 3, 1) := sorry
theorem dX1_reprint_13 : decode cX1_reprint 13 = .ok (.aload_n 3, 1) := sorry
theorem dX1_reprint_14 : decode cX1_reprint 14 = .ok (.invokeinterface 248 1, 5) := sorry
theorem dX1_reprint_19 : decode cX1_reprint 19 = .ok (.ifCond .eq 30, 3) := sorry
theorem dX1_reprint_22 : decode cX1_reprint 22 = .ok (.aload_n 3, 1) := sorry
theorem dX1_reprint_23 : decode cX1_reprint 23 = .ok (.invokeinterface 254 1, 5) := sorry
theorem dX1_reprint_28 : decode cX1_reprint 28 = .ok (.checkcast 320, 3) := sorry
theorem dX1_reprint_31 : decode cX1_reprint 31 = .ok (.astore 4, 2) := sorry
theorem dX1_reprint_33 : decode cX1_reprint 33 = .ok (.iload_n 2, 1) := sorry
theorem dX1_reprint_34 : decode cX1_reprint 34 = .ok (.iinc 2 (-1), 3) := sorry
theorem dX1_reprint_37 : decode cX1_reprint 37 = .ok (.ifCond .ne 9, 3) := sorry
theorem dX1_reprint_40 : decode cX1_reprint 40 = .ok (.aload 4, 2) := sorry
theorem dX1_reprint_42 : decode cX1_reprint 42 = .ok (.invokevirtual 322, 3) := sorry
theorem dX1_reprint_45 : decode cX1_reprint 45 = .ok (.ireturn, 1) := sorry
theorem dX1_reprint_46 : decode cX1_reprint 46 = .ok (.goto (-33), 3) := sorry
theorem dX1_reprint_49 : decode cX1_reprint 49 = .ok (.iconst (-1), 1) := sorry
theorem dX1_reprint_50 : decode cX1_reprint 50 = .ok (.ireturn, 1) := sorry
abbrev cX1_nextSerial : ByteArray := prog_1_method_48_code
def yX1_nextSerial : MethodName := ⟨RX1, "nextSerial", "()I"⟩
def dkwX1_nextSerial_0 : List UInt8 := [42, 180, 0, 59, 182, 1, 69, 76, 43, 199, 0, 7, 2, 167, 0, 7, 43, 182, 1, 66, 172]
abbrev dktX1_nextSerial_0 : List UInt8 := dkwX1_nextSerial_0 ++ []
theorem dksX1_nextSerial_0 : cX1_nextSerial.data.toList.drop 0 = dktX1_nextSerial_0 := sorry
theorem dX1_nextSerial_0 : decode cX1_nextSerial 0 = .ok (.aload_n 0, 1) := sorry
theorem dX1_nextSerial_1 : decode cX1_nextSerial 1 = .ok (.getfield 59, 3) := sorry
theorem dX1_nextSerial_4 : decode cX1_nextSerial 4 = .ok (.invokevirtual 325, 3) := sorry
theorem dX1_nextSerial_7 : decode cX1_nextSerial 7 = .ok (.astore_n 1, 1) := sorry
theorem dX1_nextSerial_8 : decode cX1_nextSerial 8 = .ok (.aload_n 1, 1) := sorry
theorem dX1_nextSerial_9 : decode cX1_nextSerial 9 = .ok (.ifnonnull 7, 3) := sorry
theorem dX1_nextSerial_12 : decode cX1_nextSerial 12 = .ok (.iconst (-1), 1) := sorry
theorem dX1_nextSerial_13 : decode cX1_nextSerial 13 = .ok (.goto 7, 3) := sorry
theorem dX1_nextSerial_16 : decode cX1_nextSerial 16 = .ok (.aload_n 1, 1) := sorry
theorem dX1_nextSerial_17 : decode cX1_nextSerial 17 = .ok (.invokevirtual 322, 3) := sorry
theorem dX1_nextSerial_20 : decode cX1_nextSerial 20 = .ok (.ireturn, 1) := sorry
abbrev cX1_doubles : ByteArray := prog_1_method_53_code
def yX1_doubles : MethodName := ⟨RX1, "doubles", "()I"⟩
def dkwX1_doubles_4 : List UInt8 := [167, 0, 4, 3, 96, 60, 132, 3, 1, 167, 255, 176, 132, 2, 1, 167, 255, 154, 27, 172]
abbrev dktX1_doubles_4 : List UInt8 := dkwX1_doubles_4 ++ []
def dkwX1_doubles_3 : List UInt8 := [180, 0, 91, 28, 182, 1, 12, 192, 1, 16, 29, 182, 1, 43, 21, 4, 182, 1, 81, 153, 0, 7, 4]
abbrev dktX1_doubles_3 : List UInt8 := dkwX1_doubles_3 ++ dktX1_doubles_4
def dkwX1_doubles_2 : List UInt8 := [96, 54, 4, 27, 42, 180, 0, 59, 180, 1, 49, 21, 4, 46, 153, 0, 34, 42, 42, 180, 0, 43]
abbrev dktX1_doubles_2 : List UInt8 := dkwX1_doubles_2 ++ dktX1_doubles_3
def dkwX1_doubles_1 : List UInt8 := [180, 0, 43, 180, 0, 91, 28, 182, 1, 12, 192, 1, 16, 180, 1, 22, 162, 0, 65, 16, 40, 28, 104, 29]
abbrev dktX1_doubles_1 : List UInt8 := dkwX1_doubles_1 ++ dktX1_doubles_2
def dkwX1_doubles_0 : List UInt8 := [3, 60, 3, 61, 28, 42, 180, 0, 43, 180, 0, 91, 182, 0, 95, 162, 0, 94, 3, 62, 29, 42]
abbrev dktX1_doubles_0 : List UInt8 := dkwX1_doubles_0 ++ dktX1_doubles_1
theorem dksX1_doubles_0 : cX1_doubles.data.toList.drop 0 = dktX1_doubles_0 := sorry
theorem dksX1_doubles_1 : cX1_doubles.data.toList.drop 22 = dktX1_doubles_1 := sorry
theorem dksX1_doubles_2 : cX1_doubles.data.toList.drop 46 = dktX1_doubles_2 := sorry
theorem dksX1_doubles_3 : cX1_doubles.data.toList.drop 68 = dktX1_doubles_3 := sorry
theorem dksX1_doubles_4 : cX1_doubles.data.toList.drop 91 = dktX1_doubles_4 := sorry
theorem dX1_doubles_0 : decode cX1_doubles 0 = .ok (.iconst 0, 1) := sorry
theorem dX1_doubles_1 : decode cX1_doubles 1 = .ok (.istore_n 1, 1) := sorry
theorem dX1_doubles_2 : decode cX1_doubles 2 = .ok (.iconst 0, 1) := sorry
theorem dX1_doubles_3 : decode cX1_doubles 3 = .ok (.istore_n 2, 1) := sorry
theorem dX1_doubles_4 : decode cX1_doubles 4 = .ok (.iload_n 2, 1) := sorry
theorem dX1_doubles_5 : decode cX1_doubles 5 = .ok (.aload_n 0, 1) := sorry
theorem dX1_doubles_6 : decode cX1_doubles 6 = .ok (.getfield 43, 3) := sorry
theorem dX1_doubles_9 : decode cX1_doubles 9 = .ok (.getfield 91, 3) := sorry
theorem dX1_doubles_12 : decode cX1_doubles 12 = .ok (.invokevirtual 95, 3) := sorry
theorem dX1_doubles_15 : decode cX1_doubles 15 = .ok (.if_icmp .ge 94, 3) := sorry
theorem dX1_doubles_18 : decode cX1_doubles 18 = .ok (.iconst 0, 1) := sorry
theorem dX1_doubles_19 : decode cX1_doubles 19 = .ok (.istore_n 3, 1) := sorry
theorem dX1_doubles_20 : decode cX1_doubles 20 = .ok (.iload_n 3, 1) := sorry
theorem dX1_doubles_21 : decode cX1_doubles 21 = .ok (.aload_n 0, 1) := sorry
theorem dX1_doubles_22 : decode cX1_doubles 22 = .ok (.getfield 43, 3) := sorry
theorem dX1_doubles_25 : decode cX1_doubles 25 = .ok (.getfield 91, 3) := sorry
theorem dX1_doubles_28 : decode cX1_doubles 28 = .ok (.iload_n 2, 1) := sorry
theorem dX1_doubles_29 : decode cX1_doubles 29 = .ok (.invokevirtual 268, 3) := sorry
theorem dX1_doubles_32 : decode cX1_doubles 32 = .ok (.checkcast 272, 3) := sorry
theorem dX1_doubles_35 : decode cX1_doubles 35 = .ok (.getfield 278, 3) := sorry
theorem dX1_doubles_38 : decode cX1_doubles 38 = .ok (.if_icmp .ge 65, 3) := sorry
theorem dX1_doubles_41 : decode cX1_doubles 41 = .ok (.bipush 40, 2) := sorry
theorem dX1_doubles_43 : decode cX1_doubles 43 = .ok (.iload_n 2, 1) := sorry
theorem dX1_doubles_44 : decode cX1_doubles 44 = .ok (.imul, 1) := sorry
theorem dX1_doubles_45 : decode cX1_doubles 45 = .ok (.iload_n 3, 1) := sorry
theorem dX1_doubles_46 : decode cX1_doubles 46 = .ok (.iadd, 1) := sorry
theorem dX1_doubles_47 : decode cX1_doubles 47 = .ok (.istore 4, 2) := sorry
theorem dX1_doubles_49 : decode cX1_doubles 49 = .ok (.iload_n 1, 1) := sorry
theorem dX1_doubles_50 : decode cX1_doubles 50 = .ok (.aload_n 0, 1) := sorry
theorem dX1_doubles_51 : decode cX1_doubles 51 = .ok (.getfield 59, 3) := sorry
theorem dX1_doubles_54 : decode cX1_doubles 54 = .ok (.getfield 305, 3) := sorry
theorem dX1_doubles_57 : decode cX1_doubles 57 = .ok (.iload 4, 2) := sorry
theorem dX1_doubles_59 : decode cX1_doubles 59 = .ok (.iaload, 1) := sorry
theorem dX1_doubles_60 : decode cX1_doubles 60 = .ok (.ifCond .eq 34, 3) := sorry
theorem dX1_doubles_63 : decode cX1_doubles 63 = .ok (.aload_n 0, 1) := sorry
theorem dX1_doubles_64 : decode cX1_doubles 64 = .ok (.aload_n 0, 1) := sorry
theorem dX1_doubles_65 : decode cX1_doubles 65 = .ok (.getfield 43, 3) := sorry
theorem dX1_doubles_68 : decode cX1_doubles 68 = .ok (.getfield 91, 3) := sorry
theorem dX1_doubles_71 : decode cX1_doubles 71 = .ok (.iload_n 2, 1) := sorry
theorem dX1_doubles_72 : decode cX1_doubles 72 = .ok (.invokevirtual 268, 3) := sorry
theorem dX1_doubles_75 : decode cX1_doubles 75 = .ok (.checkcast 272, 3) := sorry
theorem dX1_doubles_78 : decode cX1_doubles 78 = .ok (.iload_n 3, 1) := sorry
theorem dX1_doubles_79 : decode cX1_doubles 79 = .ok (.invokevirtual 299, 3) := sorry
theorem dX1_doubles_82 : decode cX1_doubles 82 = .ok (.iload 4, 2) := sorry
theorem dX1_doubles_84 : decode cX1_doubles 84 = .ok (.invokevirtual 337, 3) := sorry
theorem dX1_doubles_87 : decode cX1_doubles 87 = .ok (.ifCond .eq 7, 3) := sorry
theorem dX1_doubles_90 : decode cX1_doubles 90 = .ok (.iconst 1, 1) := sorry
theorem dX1_doubles_91 : decode cX1_doubles 91 = .ok (.goto 4, 3) := sorry
theorem dX1_doubles_94 : decode cX1_doubles 94 = .ok (.iconst 0, 1) := sorry
theorem dX1_doubles_95 : decode cX1_doubles 95 = .ok (.iadd, 1) := sorry
theorem dX1_doubles_96 : decode cX1_doubles 96 = .ok (.istore_n 1, 1) := sorry
theorem dX1_doubles_97 : decode cX1_doubles 97 = .ok (.iinc 3 1, 3) := sorry
theorem dX1_doubles_100 : decode cX1_doubles 100 = .ok (.goto (-80), 3) := sorry
theorem dX1_doubles_103 : decode cX1_doubles 103 = .ok (.iinc 2 1, 3) := sorry
theorem dX1_doubles_106 : decode cX1_doubles 106 = .ok (.goto (-102), 3) := sorry
theorem dX1_doubles_109 : decode cX1_doubles 109 = .ok (.iload_n 1, 1) := sorry
theorem dX1_doubles_110 : decode cX1_doubles 110 = .ok (.ireturn, 1) := sorry
abbrev cX1_isElsewhere : ByteArray := prog_1_method_52_code
def yX1_isElsewhere : MethodName := ⟨RX1, "isElsewhere", "(II)Z"⟩
def dkwX1_isElsewhere_4 : List UInt8 := [172, 132, 4, 1, 167, 255, 178, 132, 3, 1, 167, 255, 155, 3, 172]
abbrev dktX1_isElsewhere_4 : List UInt8 := dkwX1_isElsewhere_4 ++ []
def dkwX1_isElsewhere_3 : List UInt8 := [42, 180, 0, 43, 180, 0, 91, 29, 182, 1, 12, 192, 1, 16, 21, 4, 182, 1, 43, 27, 160, 0, 5, 4]
abbrev dktX1_isElsewhere_3 : List UInt8 := dkwX1_isElsewhere_3 ++ dktX1_isElsewhere_4
def dkwX1_isElsewhere_2 : List UInt8 := [21, 4, 96, 54, 5, 21, 5, 28, 159, 0, 41, 42, 180, 0, 59, 180, 1, 49, 21, 5, 46, 153, 0, 28]
abbrev dktX1_isElsewhere_2 : List UInt8 := dkwX1_isElsewhere_2 ++ dktX1_isElsewhere_3
def dkwX1_isElsewhere_1 : List UInt8 := [180, 0, 43, 180, 0, 91, 29, 182, 1, 12, 192, 1, 16, 180, 1, 22, 162, 0, 62, 16, 40, 29, 104]
abbrev dktX1_isElsewhere_1 : List UInt8 := dkwX1_isElsewhere_1 ++ dktX1_isElsewhere_2
def dkwX1_isElsewhere_0 : List UInt8 := [3, 62, 29, 42, 180, 0, 43, 180, 0, 91, 182, 0, 95, 162, 0, 93, 3, 54, 4, 21, 4, 42]
abbrev dktX1_isElsewhere_0 : List UInt8 := dkwX1_isElsewhere_0 ++ dktX1_isElsewhere_1
theorem dksX1_isElsewhere_0 : cX1_isElsewhere.data.toList.drop 0 = dktX1_isElsewhere_0 := sorry
theorem dksX1_isElsewhere_1 : cX1_isElsewhere.data.toList.drop 22 = dktX1_isElsewhere_1 := sorry
theorem dksX1_isElsewhere_2 : cX1_isElsewhere.data.toList.drop 45 = dktX1_isElsewhere_2 := sorry
theorem dksX1_isElsewhere_3 : cX1_isElsewhere.data.toList.drop 69 = dktX1_isElsewhere_3 := sorry
theorem dksX1_isElsewhere_4 : cX1_isElsewhere.data.toList.drop 93 = dktX1_isElsewhere_4 := sorry
theorem dX1_isElsewhere_0 : decode cX1_isElsewhere 0 = .ok (.iconst 0, 1) := sorry
theorem dX1_isElsewhere_1 : decode cX1_isElsewhere 1 = .ok (.istore_n 3, 1) := sorry
theorem dX1_isElsewhere_2 : decode cX1_isElsewhere 2 = .ok (.iload_n 3, 1) := sorry
theorem dX1_isElsewhere_3 : decode cX1_isElsewhere 3 = .ok (.aload_n 0, 1) := sorry
theorem dX1_isElsewhere_4 : decode cX1_isElsewhere 4 = .ok (.getfield 43, 3) := sorry
theorem dX1_isElsewhere_7 : decode cX1_isElsewhere 7 = .ok (.getfield 91, 3) := sorry
theorem dX1_isElsewhere_10 : decode cX1_isElsewhere 10 = .ok (.invokevirtual 95, 3) := sorry
theorem dX1_isElsewhere_13 : decode cX1_isElsewhere 13 = .ok (.if_icmp .ge 93, 3) := sorry
theorem dX1_isElsewhere_16 : decode cX1_isElsewhere 16 = .ok (.iconst 0, 1) := sorry
theorem dX1_isElsewhere_17 : decode cX1_isElsewhere 17 = .ok (.istore 4, 2) := sorry
theorem dX1_isElsewhere_19 : decode cX1_isElsewhere 19 = .ok (.iload 4, 2) := sorry
theorem dX1_isElsewhere_21 : decode cX1_isElsewhere 21 = .ok (.aload_n 0, 1) := sorry
theorem dX1_isElsewhere_22 : decode cX1_isElsewhere 22 = .ok (.getfield 43, 3) := sorry
theorem dX1_isElsewhere_25 : decode cX1_isElsewhere 25 = .ok (.getfield 91, 3) := sorry
theorem dX1_isElsewhere_28 : decode cX1_isElsewhere 28 = .ok (.iload_n 3, 1) := sorry
theorem dX1_isElsewhere_29 : decode cX1_isElsewhere 29 = .ok (.invokevirtual 268, 3) := sorry
theorem dX1_isElsewhere_32 : decode cX1_isElsewhere 32 = .ok (.checkcast 272, 3) := sorry
theorem dX1_isElsewhere_35 : decode cX1_isElsewhere 35 = .ok (.getfield 278, 3) := sorry
theorem dX1_isElsewhere_38 : decode cX1_isElsewhere 38 = .ok (.if_icmp .ge 62, 3) := sorry
theorem dX1_isElsewhere_41 : decode cX1_isElsewhere 41 = .ok (.bipush 40, 2) := sorry
theorem dX1_isElsewhere_43 : decode cX1_isElsewhere 43 = .ok (.iload_n 3, 1) := sorry
theorem dX1_isElsewhere_44 : decode cX1_isElsewhere 44 = .ok (.imul, 1) := sorry
theorem dX1_isElsewhere_45 : decode cX1_isElsewhere 45 = .ok (.iload 4, 2) := sorry
theorem dX1_isElsewhere_47 : decode cX1_isElsewhere 47 = .ok (.iadd, 1) := sorry
theorem dX1_isElsewhere_48 : decode cX1_isElsewhere 48 = .ok (.istore 5, 2) := sorry
theorem dX1_isElsewhere_50 : decode cX1_isElsewhere 50 = .ok (.iload 5, 2) := sorry
theorem dX1_isElsewhere_52 : decode cX1_isElsewhere 52 = .ok (.iload_n 2, 1) := sorry
theorem dX1_isElsewhere_53 : decode cX1_isElsewhere 53 = .ok (.if_icmp .eq 41, 3) := sorry
theorem dX1_isElsewhere_56 : decode cX1_isElsewhere 56 = .ok (.aload_n 0, 1) := sorry
theorem dX1_isElsewhere_57 : decode cX1_isElsewhere 57 = .ok (.getfield 59, 3) := sorry
theorem dX1_isElsewhere_60 : decode cX1_isElsewhere 60 = .ok (.getfield 305, 3) := sorry
theorem dX1_isElsewhere_63 : decode cX1_isElsewhere 63 = .ok (.iload 5, 2) := sorry
theorem dX1_isElsewhere_65 : decode cX1_isElsewhere 65 = .ok (.iaload, 1) := sorry
theorem dX1_isElsewhere_66 : decode cX1_isElsewhere 66 = .ok (.ifCond .eq 28, 3) := sorry
theorem dX1_isElsewhere_69 : decode cX1_isElsewhere 69 = .ok (.aload_n 0, 1) := sorry
theorem dX1_isElsewhere_70 : decode cX1_isElsewhere 70 = .ok (.getfield 43, 3) := sorry
theorem dX1_isElsewhere_73 : decode cX1_isElsewhere 73 = .ok (.getfield 91, 3) := sorry
theorem dX1_isElsewhere_76 : decode cX1_isElsewhere 76 = .ok (.iload_n 3, 1) := sorry
theorem dX1_isElsewhere_77 : decode cX1_isElsewhere 77 = .ok (.invokevirtual 268, 3) := sorry
theorem dX1_isElsewhere_80 : decode cX1_isElsewhere 80 = .ok (.checkcast 272, 3) := sorry
theorem dX1_isElsewhere_83 : decode cX1_isElsewhere 83 = .ok (.iload 4, 2) := sorry
theorem dX1_isElsewhere_85 : decode cX1_isElsewhere 85 = .ok (.invokevirtual 299, 3) := sorry
theorem dX1_isElsewhere_88 : decode cX1_isElsewhere 88 = .ok (.iload_n 1, 1) := sorry
theorem dX1_isElsewhere_89 : decode cX1_isElsewhere 89 = .ok (.if_icmp .ne 5, 3) := sorry
theorem dX1_isElsewhere_92 : decode cX1_isElsewhere 92 = .ok (.iconst 1, 1) := sorry
theorem dX1_isElsewhere_93 : decode cX1_isElsewhere 93 = .ok (.ireturn, 1) := sorry
theorem dX1_isElsewhere_94 : decode cX1_isElsewhere 94 = .ok (.iinc 4 1, 3) := sorry
theorem dX1_isElsewhere_97 : decode cX1_isElsewhere 97 = .ok (.goto (-78), 3) := sorry
theorem dX1_isElsewhere_100 : decode cX1_isElsewhere 100 = .ok (.iinc 3 1, 3) := sorry
theorem dX1_isElsewhere_103 : decode cX1_isElsewhere 103 = .ok (.goto (-101), 3) := sorry
theorem dX1_isElsewhere_106 : decode cX1_isElsewhere 106 = .ok (.iconst 0, 1) := sorry
theorem dX1_isElsewhere_107 : decode cX1_isElsewhere 107 = .ok (.ireturn, 1) := sorry
abbrev cX1_logCount : ByteArray := prog_1_method_56_code
def yX1_logCount : MethodName := ⟨RX1, "logCount", "()I"⟩
def dkwX1_logCount_0 : List UInt8 := [42, 180, 0, 59, 180, 1, 90, 172]
abbrev dktX1_logCount_0 : List UInt8 := dkwX1_logCount_0 ++ []
theorem dksX1_logCount_0 : cX1_logCount.data.toList.drop 0 = dktX1_logCount_0 := sorry
theorem dX1_logCount_0 : decode cX1_logCount 0 = .ok (.aload_n 0, 1) := sorry
theorem dX1_logCount_1 : decode cX1_logCount 1 = .ok (.getfield 59, 3) := sorry
theorem dX1_logCount_4 : decode cX1_logCount 4 = .ok (.getfield 346, 3) := sorry
theorem dX1_logCount_7 : decode cX1_logCount 7 = .ok (.ireturn, 1) := sorry
abbrev cX1_printingAt : ByteArray := prog_1_method_58_code
def yX1_printingAt : MethodName := ⟨RX1, "printingAt", "(I)I"⟩
def dkwX1_printingAt_2 : List UInt8 := [167, 255, 220, 2, 172]
abbrev dktX1_printingAt_2 : List UInt8 := dkwX1_printingAt_2 ++ []
def dkwX1_printingAt_1 : List UInt8 := [5, 96, 46, 27, 160, 0, 15, 42, 180, 0, 59, 180, 1, 93, 7, 28, 104, 46, 172, 132, 2, 255]
abbrev dktX1_printingAt_1 : List UInt8 := dkwX1_printingAt_1 ++ dktX1_printingAt_2
def dkwX1_printingAt_0 : List UInt8 := [42, 180, 0, 59, 180, 1, 90, 4, 100, 61, 28, 155, 0, 38, 42, 180, 0, 59, 180, 1, 93, 7, 28, 104]
abbrev dktX1_printingAt_0 : List UInt8 := dkwX1_printingAt_0 ++ dktX1_printingAt_1
theorem dksX1_printingAt_0 : cX1_printingAt.data.toList.drop 0 = dktX1_printingAt_0 := sorry
theorem dksX1_printingAt_1 : cX1_printingAt.data.toList.drop 24 = dktX1_printingAt_1 := sorry
theorem dksX1_printingAt_2 : cX1_printingAt.data.toList.drop 46 = dktX1_printingAt_2 := sorry
theorem dX1_printingAt_0 : decode cX1_printingAt 0 = .ok (.aload_n 0, 1) := sorry
theorem dX1_printingAt_1 : decode cX1_printingAt 1 = .ok (.getfield 59, 3) := sorry
theorem dX1_printingAt_4 : decode cX1_printingAt 4 = .ok (.getfield 346, 3) := sorry
theorem dX1_printingAt_7 : decode cX1_printingAt 7 = .ok (.iconst 1, 1) := sorry
theorem dX1_printingAt_8 : decode cX1_printingAt 8 = .ok (.isub, 1) := sorry
theorem dX1_printingAt_9 : decode cX1_printingAt 9 = .ok (.istore_n 2, 1) := sorry
theorem dX1_printingAt_10 : decode cX1_printingAt 10 = .ok (.iload_n 2, 1) := sorry
theorem dX1_printingAt_11 : decode cX1_printingAt 11 = .ok (.ifCond .lt 38, 3) := sorry
theorem dX1_printingAt_14 : decode cX1_printingAt 14 = .ok (.aload_n 0, 1) := sorry
theorem dX1_printingAt_15 : decode cX1_printingAt 15 = .ok (.getfield 59, 3) := sorry
theorem dX1_printingAt_18 : decode cX1_printingAt 18 = .ok (.getfield 349, 3) := sorry
theorem dX1_printingAt_21 : decode cX1_printingAt 21 = .ok (.iconst 4, 1) := sorry
theorem dX1_printingAt_22 : decode cX1_printingAt 22 = .ok (.iload_n 2, 1) := sorry
theorem dX1_printingAt_23 : decode cX1_printingAt 23 = .ok (.imul, 1) := sorry
theorem dX1_printingAt_24 : decode cX1_printingAt 24 = .ok (.iconst 2, 1) := sorry
theorem dX1_printingAt_25 : decode cX1_printingAt 25 = .ok (.iadd, 1) := sorry
theorem dX1_printingAt_26 : decode cX1_printingAt 26 = .ok (.iaload, 1) := sorry
theorem dX1_printingAt_27 : decode cX1_printingAt 27 = .ok (.iload_n 1, 1) := sorry
theorem dX1_printingAt_28 : decode cX1_printingAt 28 = .ok (.if_icmp .ne 15, 3) := sorry
theorem dX1_printingAt_31 : decode cX1_printingAt 31 = .ok (.aload_n 0, 1) := sorry
theorem dX1_printingAt_32 : decode cX1_printingAt 32 = .ok (.getfield 59, 3) := sorry
theorem dX1_printingAt_35 : decode cX1_printingAt 35 = .ok (.getfield 349, 3) := sorry
theorem dX1_printingAt_38 : decode cX1_printingAt 38 = .ok (.iconst 4, 1) := sorry
theorem dX1_printingAt_39 : decode cX1_printingAt 39 = .ok (.iload_n 2, 1) := sorry
theorem dX1_printingAt_40 : decode cX1_printingAt 40 = .ok (.imul, 1) := sorry
theorem dX1_printingAt_41 : decode cX1_printingAt 41 = .ok (.iaload, 1) := sorry
theorem dX1_printingAt_42 : decode cX1_printingAt 42 = .ok (.ireturn, 1) := sorry
theorem dX1_printingAt_43 : decode cX1_printingAt 43 = .ok (.iinc 2 (-1), 3) := sorry
theorem dX1_printingAt_46 : decode cX1_printingAt 46 = .ok (.goto (-36), 3) := sorry
theorem dX1_printingAt_49 : decode cX1_printingAt 49 = .ok (.iconst (-1), 1) := sorry
theorem dX1_printingAt_50 : decode cX1_printingAt 50 = .ok (.ireturn, 1) := sorry
abbrev cX1_longestRow : ByteArray := prog_1_method_59_code
def yX1_longestRow : MethodName := ⟨RX1, "longestRow", "()I"⟩
def dkwX1_longestRow_2 : List UInt8 := [132, 3, 1, 167, 255, 211, 27, 172]
abbrev dktX1_longestRow_2 : List UInt8 := dkwX1_longestRow_2 ++ []
def dkwX1_longestRow_1 : List UInt8 := [7, 29, 104, 4, 96, 46, 4, 160, 0, 9, 28, 4, 96, 167, 0, 4, 3, 61, 27, 28, 184, 1, 1, 60]
abbrev dktX1_longestRow_1 : List UInt8 := dkwX1_longestRow_1 ++ dktX1_longestRow_2
def dkwX1_longestRow_0 : List UInt8 := [3, 60, 3, 61, 3, 62, 29, 42, 180, 0, 59, 180, 1, 90, 162, 0, 40, 42, 180, 0, 59, 180, 1, 93]
abbrev dktX1_longestRow_0 : List UInt8 := dkwX1_longestRow_0 ++ dktX1_longestRow_1
theorem dksX1_longestRow_0 : cX1_longestRow.data.toList.drop 0 = dktX1_longestRow_0 := sorry
theorem dksX1_longestRow_1 : cX1_longestRow.data.toList.drop 24 = dktX1_longestRow_1 := sorry
theorem dksX1_longestRow_2 : cX1_longestRow.data.toList.drop 48 = dktX1_longestRow_2 := sorry
theorem dX1_longestRow_0 : decode cX1_longestRow 0 = .ok (.iconst 0, 1) := sorry
theorem dX1_longestRow_1 : decode cX1_longestRow 1 = .ok (.istore_n 1, 1) := sorry
theorem dX1_longestRow_2 : decode cX1_longestRow 2 = .ok (.iconst 0, 1) := sorry
theorem dX1_longestRow_3 : decode cX1_longestRow 3 = .ok (.istore_n 2, 1) := sorry
theorem dX1_longestRow_4 : decode cX1_longestRow 4 = .ok (.iconst 0, 1) := sorry
theorem dX1_longestRow_5 : decode cX1_longestRow 5 = .ok (.istore_n 3, 1) := sorry
theorem dX1_longestRow_6 : decode cX1_longestRow 6 = .ok (.iload_n 3, 1) := sorry
theorem dX1_longestRow_7 : decode cX1_longestRow 7 = .ok (.aload_n 0, 1) := sorry
theorem dX1_longestRow_8 : decode cX1_longestRow 8 = .ok (.getfield 59, 3) := sorry
theorem dX1_longestRow_11 : decode cX1_longestRow 11 = .ok (.getfield 346, 3) := sorry
theorem dX1_longestRow_14 : decode cX1_longestRow 14 = .ok (.if_icmp .ge 40, 3) := sorry
theorem dX1_longestRow_17 : decode cX1_longestRow 17 = .ok (.aload_n 0, 1) := sorry
theorem dX1_longestRow_18 : decode cX1_longestRow 18 = .ok (.getfield 59, 3) := sorry
theorem dX1_longestRow_21 : decode cX1_longestRow 21 = .ok (.getfield 349, 3) := sorry
theorem dX1_longestRow_24 : decode cX1_longestRow 24 = .ok (.iconst 4, 1) := sorry
theorem dX1_longestRow_25 : decode cX1_longestRow 25 = .ok (.iload_n 3, 1) := sorry
theorem dX1_longestRow_26 : decode cX1_longestRow 26 = .ok (.imul, 1) := sorry
theorem dX1_longestRow_27 : decode cX1_longestRow 27 = .ok (.iconst 1, 1) := sorry
theorem dX1_longestRow_28 : decode cX1_longestRow 28 = .ok (.iadd, 1) := sorry
theorem dX1_longestRow_29 : decode cX1_longestRow 29 = .ok (.iaload, 1) := sorry
theorem dX1_longestRow_30 : decode cX1_longestRow 30 = .ok (.iconst 1, 1) := sorry
theorem dX1_longestRow_31 : decode cX1_longestRow 31 = .ok (.if_icmp .ne 9, 3) := sorry
theorem dX1_longestRow_34 : decode cX1_longestRow 34 = .ok (.iload_n 2, 1) := sorry
theorem dX1_longestRow_35 : decode cX1_longestRow 35 = .ok (.iconst 1, 1) := sorry
theorem dX1_longestRow_36 : decode cX1_longestRow 36 = .ok (.iadd, 1) := sorry
theorem dX1_longestRow_37 : decode cX1_longestRow 37 = .ok (.goto 4, 3) := sorry
theorem dX1_longestRow_40 : decode cX1_longestRow 40 = .ok (.iconst 0, 1) := sorry
theorem dX1_longestRow_41 : decode cX1_longestRow 41 = .ok (.istore_n 2, 1) := sorry
theorem dX1_longestRow_42 : decode cX1_longestRow 42 = .ok (.iload_n 1, 1) := sorry
theorem dX1_longestRow_43 : decode cX1_longestRow 43 = .ok (.iload_n 2, 1) := sorry
theorem dX1_longestRow_44 : decode cX1_longestRow 44 = .ok (.invokestatic 257, 3) := sorry
theorem dX1_longestRow_47 : decode cX1_longestRow 47 = .ok (.istore_n 1, 1) := sorry
theorem dX1_longestRow_48 : decode cX1_longestRow 48 = .ok (.iinc 3 1, 3) := sorry
theorem dX1_longestRow_51 : decode cX1_longestRow 51 = .ok (.goto (-45), 3) := sorry
theorem dX1_longestRow_54 : decode cX1_longestRow 54 = .ok (.iload_n 1, 1) := sorry
theorem dX1_longestRow_55 : decode cX1_longestRow 55 = .ok (.ireturn, 1) := sorry
abbrev cX1_trouble : ByteArray := prog_1_method_60_code
def yX1_trouble : MethodName := ⟨RX1, "trouble", "()I"⟩
def dkwX1_trouble_0 : List UInt8 := [42, 180, 0, 59, 180, 0, 211, 172]
abbrev dktX1_trouble_0 : List UInt8 := dkwX1_trouble_0 ++ []
theorem dksX1_trouble_0 : cX1_trouble.data.toList.drop 0 = dktX1_trouble_0 := sorry
theorem dX1_trouble_0 : decode cX1_trouble 0 = .ok (.aload_n 0, 1) := sorry
theorem dX1_trouble_1 : decode cX1_trouble 1 = .ok (.getfield 59, 3) := sorry
theorem dX1_trouble_4 : decode cX1_trouble 4 = .ok (.getfield 211, 3) := sorry
theorem dX1_trouble_7 : decode cX1_trouble 7 = .ok (.ireturn, 1) := sorry
abbrev cX1_causeOfTrouble : ByteArray := prog_1_method_61_code
def yX1_causeOfTrouble : MethodName := ⟨RX1, "causeOfTrouble", "()I"⟩
def dkwX1_causeOfTrouble_0 : List UInt8 := [42, 180, 0, 59, 180, 1, 96, 172]
abbrev dktX1_causeOfTrouble_0 : List UInt8 := dkwX1_causeOfTrouble_0 ++ []
theorem dksX1_causeOfTrouble_0 : cX1_causeOfTrouble.data.toList.drop 0 = dktX1_causeOfTrouble_0 := sorry
theorem dX1_causeOfTrouble_0 : decode cX1_causeOfTrouble 0 = .ok (.aload_n 0, 1) := sorry
theorem dX1_causeOfTrouble_1 : decode cX1_causeOfTrouble 1 = .ok (.getfield 59, 3) := sorry
theorem dX1_causeOfTrouble_4 : decode cX1_causeOfTrouble 4 = .ok (.getfield 352, 3) := sorry
theorem dX1_causeOfTrouble_7 : decode cX1_causeOfTrouble 7 = .ok (.ireturn, 1) := sorry
abbrev cX1_undo : ByteArray := prog_1_method_66_code
def yX1_undo : MethodName := ⟨RX1, "undo", "()I"⟩
def dkwX1_undo_1 : List UInt8 := [181, 0, 59, 42, 180, 0, 32, 182, 0, 101, 172]
abbrev dktX1_undo_1 : List UInt8 := dkwX1_undo_1 ++ []
def dkwX1_undo_0 : List UInt8 := [42, 180, 0, 32, 182, 1, 109, 153, 0, 5, 2, 172, 42, 42, 180, 0, 32, 182, 1, 112, 192, 0, 54]
abbrev dktX1_undo_0 : List UInt8 := dkwX1_undo_0 ++ dktX1_undo_1
theorem dksX1_undo_0 : cX1_undo.data.toList.drop 0 = dktX1_undo_0 := sorry
theorem dksX1_undo_1 : cX1_undo.data.toList.drop 23 = dktX1_undo_1 := sorry
theorem dX1_undo_0 : decode cX1_undo 0 = .ok (.aload_n 0, 1) := sorry
theorem dX1_undo_1 : decode cX1_undo 1 = .ok (.getfield 32, 3) := sorry
theorem dX1_undo_4 : decode cX1_undo 4 = .ok (.invokevirtual 365, 3) := sorry
theorem dX1_undo_7 : decode cX1_undo 7 = .ok (.ifCond .eq 5, 3) := sorry
theorem dX1_undo_10 : decode cX1_undo 10 = .ok (.iconst (-1), 1) := sorry
theorem dX1_undo_11 : decode cX1_undo 11 = .ok (.ireturn, 1) := sorry
theorem dX1_undo_12 : decode cX1_undo 12 = .ok (.aload_n 0, 1) := sorry
theorem dX1_undo_13 : decode cX1_undo 13 = .ok (.aload_n 0, 1) := sorry
theorem dX1_undo_14 : decode cX1_undo 14 = .ok (.getfield 32, 3) := sorry
theorem dX1_undo_17 : decode cX1_undo 17 = .ok (.invokevirtual 368, 3) := sorry
theorem dX1_undo_20 : decode cX1_undo 20 = .ok (.checkcast 54, 3) := sorry
theorem dX1_undo_23 : decode cX1_undo 23 = .ok (.putfield 59, 3) := sorry
theorem dX1_undo_26 : decode cX1_undo 26 = .ok (.aload_n 0, 1) := sorry
theorem dX1_undo_27 : decode cX1_undo 27 = .ok (.getfield 32, 3) := sorry
theorem dX1_undo_30 : decode cX1_undo 30 = .ok (.invokevirtual 101, 3) := sorry
theorem dX1_undo_33 : decode cX1_undo 33 = .ok (.ireturn, 1) := sorry
abbrev cX1_undoDepth : ByteArray := prog_1_method_67_code
def yX1_undoDepth : MethodName := ⟨RX1, "undoDepth", "()I"⟩
def dkwX1_undoDepth_0 : List UInt8 := [42, 180, 0, 32, 182, 0, 101, 172]
abbrev dktX1_undoDepth_0 : List UInt8 := dkwX1_undoDepth_0 ++ []
theorem dksX1_undoDepth_0 : cX1_undoDepth.data.toList.drop 0 = dktX1_undoDepth_0 := sorry
theorem dX1_undoDepth_0 : decode cX1_undoDepth 0 = .ok (.aload_n 0, 1) := sorry
theorem dX1_undoDepth_1 : decode cX1_undoDepth 1 = .ok (.getfield 32, 3) := sorry
theorem dX1_undoDepth_4 : decode cX1_undoDepth 4 = .ok (.invokevirtual 101, 3) := sorry
theorem dX1_undoDepth_7 : decode cX1_undoDepth 7 = .ok (.ireturn, 1) := sorry
abbrev cX1_toPrint : ByteArray := prog_1_method_70_code
def yX1_toPrint : MethodName := ⟨RX1, "toPrint", "()I"⟩
def dkwX1_toPrint_1 : List UInt8 := [162, 0, 18, 27, 42, 28, 3, 182, 1, 54, 96, 60, 132, 2, 1, 167, 255, 230, 27, 172]
abbrev dktX1_toPrint_1 : List UInt8 := dkwX1_toPrint_1 ++ []
def dkwX1_toPrint_0 : List UInt8 := [42, 180, 0, 59, 180, 1, 57, 182, 0, 101, 60, 3, 61, 28, 42, 180, 0, 43, 180, 0, 91, 182, 0, 95]
abbrev dktX1_toPrint_0 : List UInt8 := dkwX1_toPrint_0 ++ dktX1_toPrint_1
theorem dksX1_toPrint_0 : cX1_toPrint.data.toList.drop 0 = dktX1_toPrint_0 := sorry
theorem dksX1_toPrint_1 : cX1_toPrint.data.toList.drop 24 = dktX1_toPrint_1 := sorry
theorem dX1_toPrint_0 : decode cX1_toPrint 0 = .ok (.aload_n 0, 1) := sorry
theorem dX1_toPrint_1 : decode cX1_toPrint 1 = .ok (.getfield 59, 3) := sorry
theorem dX1_toPrint_4 : decode cX1_toPrint 4 = .ok (.getfield 313, 3) := sorry
theorem dX1_toPrint_7 : decode cX1_toPrint 7 = .ok (.invokevirtual 101, 3) := sorry
theorem dX1_toPrint_10 : decode cX1_toPrint 10 = .ok (.istore_n 1, 1) := sorry
theorem dX1_toPrint_11 : decode cX1_toPrint 11 = .ok (.iconst 0, 1) := sorry
theorem dX1_toPrint_12 : decode cX1_toPrint 12 = .ok (.istore_n 2, 1) := sorry
theorem dX1_toPrint_13 : decode cX1_toPrint 13 = .ok (.iload_n 2, 1) := sorry
theorem dX1_toPrint_14 : decode cX1_toPrint 14 = .ok (.aload_n 0, 1) := sorry
theorem dX1_toPrint_15 : decode cX1_toPrint 15 = .ok (.getfield 43, 3) := sorry
theorem dX1_toPrint_18 : decode cX1_toPrint 18 = .ok (.getfield 91, 3) := sorry
theorem dX1_toPrint_21 : decode cX1_toPrint 21 = .ok (.invokevirtual 95, 3) := sorry
theorem dX1_toPrint_24 : decode cX1_toPrint 24 = .ok (.if_icmp .ge 18, 3) := sorry
theorem dX1_toPrint_27 : decode cX1_toPrint 27 = .ok (.iload_n 1, 1) := sorry
theorem dX1_toPrint_28 : decode cX1_toPrint 28 = .ok (.aload_n 0, 1) := sorry
theorem dX1_toPrint_29 : decode cX1_toPrint 29 = .ok (.iload_n 2, 1) := sorry
theorem dX1_toPrint_30 : decode cX1_toPrint 30 = .ok (.iconst 0, 1) := sorry
theorem dX1_toPrint_31 : decode cX1_toPrint 31 = .ok (.invokevirtual 310, 3) := sorry
theorem dX1_toPrint_34 : decode cX1_toPrint 34 = .ok (.iadd, 1) := sorry
theorem dX1_toPrint_35 : decode cX1_toPrint 35 = .ok (.istore_n 1, 1) := sorry
theorem dX1_toPrint_36 : decode cX1_toPrint 36 = .ok (.iinc 2 1, 3) := sorry
theorem dX1_toPrint_39 : decode cX1_toPrint 39 = .ok (.goto (-26), 3) := sorry
theorem dX1_toPrint_42 : decode cX1_toPrint 42 = .ok (.iload_n 1, 1) := sorry
theorem dX1_toPrint_43 : decode cX1_toPrint 43 = .ok (.ireturn, 1) := sorry
abbrev cX1_many : ByteArray := prog_1_method_43_code
def yX1_many : MethodName := ⟨RX1, "many", "(II)I"⟩
def dkwX1_many_2 : List UInt8 := [132, 4, 1, 167, 255, 213, 29, 172]
abbrev dktX1_many_2 : List UInt8 := dkwX1_many_2 ++ []
def dkwX1_many_1 : List UInt8 := [180, 1, 49, 16, 40, 27, 104, 21, 4, 96, 46, 28, 160, 0, 7, 4, 167, 0, 4, 3, 96, 62]
abbrev dktX1_many_1 : List UInt8 := dkwX1_many_1 ++ dktX1_many_2
def dkwX1_many_0 : List UInt8 := [3, 62, 3, 54, 4, 21, 4, 42, 27, 182, 1, 18, 180, 1, 22, 162, 0, 36, 29, 42, 180, 0, 59]
abbrev dktX1_many_0 : List UInt8 := dkwX1_many_0 ++ dktX1_many_1
theorem dksX1_many_0 : cX1_many.data.toList.drop 0 = dktX1_many_0 := sorry
theorem dksX1_many_1 : cX1_many.data.toList.drop 23 = dktX1_many_1 := sorry
theorem dksX1_many_2 : cX1_many.data.toList.drop 45 = dktX1_many_2 := sorry
theorem dX1_many_0 : decode cX1_many 0 = .ok (.iconst 0, 1) := sorry
theorem dX1_many_1 : decode cX1_many 1 = .ok (.istore_n 3, 1) := sorry
theorem dX1_many_2 : decode cX1_many 2 = .ok (.iconst 0, 1) := sorry
theorem dX1_many_3 : decode cX1_many 3 = .ok (.istore 4, 2) := sorry
theorem dX1_many_5 : decode cX1_many 5 = .ok (.iload 4, 2) := sorry
theorem dX1_many_7 : decode cX1_many 7 = .ok (.aload_n 0, 1) := sorry
theorem dX1_many_8 : decode cX1_many 8 = .ok (.iload_n 1, 1) := sorry
theorem dX1_many_9 : decode cX1_many 9 = .ok (.invokevirtual 274, 3) := sorry
theorem dX1_many_12 : decode cX1_many 12 = .ok (.getfield 278, 3) := sorry
theorem dX1_many_15 : decode cX1_many 15 = .ok (.if_icmp .ge 36, 3) := sorry
theorem dX1_many_18 : decode cX1_many 18 = .ok (.iload_n 3, 1) := sorry
theorem dX1_many_19 : decode cX1_many 19 = .ok (.aload_n 0, 1) := sorry
theorem dX1_many_20 : decode cX1_many 20 = .ok (.getfield 59, 3) := sorry
theorem dX1_many_23 : decode cX1_many 23 = .ok (.getfield 305, 3) := sorry
theorem dX1_many_26 : decode cX1_many 26 = .ok (.bipush 40, 2) := sorry
theorem dX1_many_28 : decode cX1_many 28 = .ok (.iload_n 1, 1) := sorry
theorem dX1_many_29 : decode cX1_many 29 = .ok (.imul, 1) := sorry
theorem dX1_many_30 : decode cX1_many 30 = .ok (.iload 4, 2) := sorry
theorem dX1_many_32 : decode cX1_many 32 = .ok (.iadd, 1) := sorry
theorem dX1_many_33 : decode cX1_many 33 = .ok (.iaload, 1) := sorry
theorem dX1_many_34 : decode cX1_many 34 = .ok (.iload_n 2, 1) := sorry
theorem dX1_many_35 : decode cX1_many 35 = .ok (.if_icmp .ne 7, 3) := sorry
theorem dX1_many_38 : decode cX1_many 38 = .ok (.iconst 1, 1) := sorry
theorem dX1_many_39 : decode cX1_many 39 = .ok (.goto 4, 3) := sorry
theorem dX1_many_42 : decode cX1_many 42 = .ok (.iconst 0, 1) := sorry
theorem dX1_many_43 : decode cX1_many 43 = .ok (.iadd, 1) := sorry
theorem dX1_many_44 : decode cX1_many 44 = .ok (.istore_n 3, 1) := sorry
theorem dX1_many_45 : decode cX1_many 45 = .ok (.iinc 4 1, 3) := sorry
theorem dX1_many_48 : decode cX1_many 48 = .ok (.goto (-43), 3) := sorry
theorem dX1_many_51 : decode cX1_many 51 = .ok (.iload_n 3, 1) := sorry
theorem dX1_many_52 : decode cX1_many 52 = .ok (.ireturn, 1) := sorry
abbrev cX1_batchAt : ByteArray := prog_1_method_36_code
def yX1_batchAt : MethodName := ⟨RX1, "batchAt", "(I)LLabelDriver$Batch;"⟩
def dkwX1_batchAt_1 : List UInt8 := [182, 1, 12, 192, 1, 16, 176]
abbrev dktX1_batchAt_1 : List UInt8 := dkwX1_batchAt_1 ++ []
def dkwX1_batchAt_0 : List UInt8 := [27, 42, 180, 0, 43, 180, 0, 91, 182, 0, 95, 184, 0, 169, 42, 180, 0, 43, 180, 0, 91, 27]
abbrev dktX1_batchAt_0 : List UInt8 := dkwX1_batchAt_0 ++ dktX1_batchAt_1
theorem dksX1_batchAt_0 : cX1_batchAt.data.toList.drop 0 = dktX1_batchAt_0 := sorry
theorem dksX1_batchAt_1 : cX1_batchAt.data.toList.drop 22 = dktX1_batchAt_1 := sorry
theorem dX1_batchAt_0 : decode cX1_batchAt 0 = .ok (.iload_n 1, 1) := sorry
theorem dX1_batchAt_1 : decode cX1_batchAt 1 = .ok (.aload_n 0, 1) := sorry
theorem dX1_batchAt_2 : decode cX1_batchAt 2 = .ok (.getfield 43, 3) := sorry
theorem dX1_batchAt_5 : decode cX1_batchAt 5 = .ok (.getfield 91, 3) := sorry
theorem dX1_batchAt_8 : decode cX1_batchAt 8 = .ok (.invokevirtual 95, 3) := sorry
theorem dX1_batchAt_11 : decode cX1_batchAt 11 = .ok (.invokestatic 169, 3) := sorry
theorem dX1_batchAt_14 : decode cX1_batchAt 14 = .ok (.aload_n 0, 1) := sorry
theorem dX1_batchAt_15 : decode cX1_batchAt 15 = .ok (.getfield 43, 3) := sorry
theorem dX1_batchAt_18 : decode cX1_batchAt 18 = .ok (.getfield 91, 3) := sorry
theorem dX1_batchAt_21 : decode cX1_batchAt 21 = .ok (.iload_n 1, 1) := sorry
theorem dX1_batchAt_22 : decode cX1_batchAt 22 = .ok (.invokevirtual 268, 3) := sorry
theorem dX1_batchAt_25 : decode cX1_batchAt 25 = .ok (.checkcast 272, 3) := sorry
theorem dX1_batchAt_28 : decode cX1_batchAt 28 = .ok (.areturn, 1) := sorry
abbrev cX1_checkIndex : ByteArray := prog_1_method_4_code
def yX1_checkIndex : MethodName := ⟨RX1, "checkIndex", "(II)V"⟩
def dkwX1_checkIndex_0 : List UInt8 := [26, 133, 9, 27, 4, 100, 133, 184, 0, 10, 154, 0, 11, 187, 0, 16, 89, 183, 0, 18, 191, 177]
abbrev dktX1_checkIndex_0 : List UInt8 := dkwX1_checkIndex_0 ++ []
theorem dksX1_checkIndex_0 : cX1_checkIndex.data.toList.drop 0 = dktX1_checkIndex_0 := sorry
theorem dX1_checkIndex_0 : decode cX1_checkIndex 0 = .ok (.iload_n 0, 1) := sorry
theorem dX1_checkIndex_1 : decode cX1_checkIndex 1 = .ok (.i2l, 1) := sorry
theorem dX1_checkIndex_2 : decode cX1_checkIndex 2 = .ok (.lconst 0, 1) := sorry
theorem dX1_checkIndex_3 : decode cX1_checkIndex 3 = .ok (.iload_n 1, 1) := sorry
theorem dX1_checkIndex_4 : decode cX1_checkIndex 4 = .ok (.iconst 1, 1) := sorry
theorem dX1_checkIndex_5 : decode cX1_checkIndex 5 = .ok (.isub, 1) := sorry
theorem dX1_checkIndex_6 : decode cX1_checkIndex 6 = .ok (.i2l, 1) := sorry
theorem dX1_checkIndex_7 : decode cX1_checkIndex 7 = .ok (.invokestatic 10, 3) := sorry
theorem dX1_checkIndex_10 : decode cX1_checkIndex 10 = .ok (.ifCond .ne 11, 3) := sorry
theorem dX1_checkIndex_13 : decode cX1_checkIndex 13 = .ok (.new 16, 3) := sorry
theorem dX1_checkIndex_16 : decode cX1_checkIndex 16 = .ok (.dup, 1) := sorry
theorem dX1_checkIndex_17 : decode cX1_checkIndex 17 = .ok (.invokespecial 18, 3) := sorry
theorem dX1_checkIndex_20 : decode cX1_checkIndex 20 = .ok (.athrow, 1) := sorry
theorem dX1_checkIndex_21 : decode cX1_checkIndex 21 = .ok (.return_, 1) := sorry
abbrev cX1_yieldPercent : ByteArray := prog_1_method_71_code
def yX1_yieldPercent : MethodName := ⟨RX1, "yieldPercent", "()I"⟩
def dkwX1_yieldPercent_1 : List UInt8 := [180, 1, 99, 4, 46, 104, 42, 180, 0, 59, 180, 1, 99, 3, 46, 108, 172]
abbrev dktX1_yieldPercent_1 : List UInt8 := dkwX1_yieldPercent_1 ++ []
def dkwX1_yieldPercent_0 : List UInt8 := [42, 180, 0, 59, 180, 1, 99, 3, 46, 154, 0, 8, 16, 100, 167, 0, 25, 16, 100, 42, 180, 0, 59]
abbrev dktX1_yieldPercent_0 : List UInt8 := dkwX1_yieldPercent_0 ++ dktX1_yieldPercent_1
theorem dksX1_yieldPercent_0 : cX1_yieldPercent.data.toList.drop 0 = dktX1_yieldPercent_0 := sorry
theorem dksX1_yieldPercent_1 : cX1_yieldPercent.data.toList.drop 23 = dktX1_yieldPercent_1 := sorry
theorem dX1_yieldPercent_0 : decode cX1_yieldPercent 0 = .ok (.aload_n 0, 1) := sorry
theorem dX1_yieldPercent_1 : decode cX1_yieldPercent 1 = .ok (.getfield 59, 3) := sorry
theorem dX1_yieldPercent_4 : decode cX1_yieldPercent 4 = .ok (.getfield 355, 3) := sorry
theorem dX1_yieldPercent_7 : decode cX1_yieldPercent 7 = .ok (.iconst 0, 1) := sorry
theorem dX1_yieldPercent_8 : decode cX1_yieldPercent 8 = .ok (.iaload, 1) := sorry
theorem dX1_yieldPercent_9 : decode cX1_yieldPercent 9 = .ok (.ifCond .ne 8, 3) := sorry
theorem dX1_yieldPercent_12 : decode cX1_yieldPercent 12 = .ok (.bipush 100, 2) := sorry
theorem dX1_yieldPercent_14 : decode cX1_yieldPercent 14 = .ok (.goto 25, 3) := sorry
theorem dX1_yieldPercent_17 : decode cX1_yieldPercent 17 = .ok (.bipush 100, 2) := sorry
theorem dX1_yieldPercent_19 : decode cX1_yieldPercent 19 = .ok (.aload_n 0, 1) := sorry
theorem dX1_yieldPercent_20 : decode cX1_yieldPercent 20 = .ok (.getfield 59, 3) := sorry
theorem dX1_yieldPercent_23 : decode cX1_yieldPercent 23 = .ok (.getfield 355, 3) := sorry
theorem dX1_yieldPercent_26 : decode cX1_yieldPercent 26 = .ok (.iconst 1, 1) := sorry
theorem dX1_yieldPercent_27 : decode cX1_yieldPercent 27 = .ok (.iaload, 1) := sorry
theorem dX1_yieldPercent_28 : decode cX1_yieldPercent 28 = .ok (.imul, 1) := sorry
theorem dX1_yieldPercent_29 : decode cX1_yieldPercent 29 = .ok (.aload_n 0, 1) := sorry
theorem dX1_yieldPercent_30 : decode cX1_yieldPercent 30 = .ok (.getfield 59, 3) := sorry
theorem dX1_yieldPercent_33 : decode cX1_yieldPercent 33 = .ok (.getfield 355, 3) := sorry
theorem dX1_yieldPercent_36 : decode cX1_yieldPercent 36 = .ok (.iconst 0, 1) := sorry
theorem dX1_yieldPercent_37 : decode cX1_yieldPercent 37 = .ok (.iaload, 1) := sorry
theorem dX1_yieldPercent_38 : decode cX1_yieldPercent 38 = .ok (.idiv, 1) := sorry
theorem dX1_yieldPercent_39 : decode cX1_yieldPercent 39 = .ok (.ireturn, 1) := sorry
abbrev cX1_formattedByte : ByteArray := prog_1_method_75_code
def yX1_formattedByte : MethodName := ⟨RX1, "formattedByte", "(I)I"⟩
def dkwX1_formattedByte_1 : List UInt8 := [182, 1, 146, 167, 0, 4, 2, 172]
abbrev dktX1_formattedByte_1 : List UInt8 := dkwX1_formattedByte_1 ++ []
def dkwX1_formattedByte_0 : List UInt8 := [27, 133, 9, 42, 180, 0, 50, 182, 1, 142, 4, 100, 133, 184, 0, 10, 153, 0, 14, 42, 180, 0, 50, 27]
abbrev dktX1_formattedByte_0 : List UInt8 := dkwX1_formattedByte_0 ++ dktX1_formattedByte_1
theorem dksX1_formattedByte_0 : cX1_formattedByte.data.toList.drop 0 = dktX1_formattedByte_0 := sorry
theorem dksX1_formattedByte_1 : cX1_formattedByte.data.toList.drop 24 = dktX1_formattedByte_1 := sorry
theorem dX1_formattedByte_0 : decode cX1_formattedByte 0 = .ok (.iload_n 1, 1) := sorry
theorem dX1_formattedByte_1 : decode cX1_formattedByte 1 = .ok (.i2l, 1) := sorry
theorem dX1_formattedByte_2 : decode cX1_formattedByte 2 = .ok (.lconst 0, 1) := sorry
theorem dX1_formattedByte_3 : decode cX1_formattedByte 3 = .ok (.aload_n 0, 1) := sorry
theorem dX1_formattedByte_4 : decode cX1_formattedByte 4 = .ok (.getfield 50, 3) := sorry
theorem dX1_formattedByte_7 : decode cX1_formattedByte 7 = .ok (.invokevirtual 398, 3) := sorry
theorem dX1_formattedByte_10 : decode cX1_formattedByte 10 = .ok (.iconst 1, 1) := sorry
theorem dX1_formattedByte_11 : decode cX1_formattedByte 11 = .ok (.isub, 1) := sorry
theorem dX1_formattedByte_12 : decode cX1_formattedByte 12 = .ok (.i2l, 1) := sorry
theorem dX1_formattedByte_13 : decode cX1_formattedByte 13 = .ok (.invokestatic 10, 3) := sorry
theorem dX1_formattedByte_16 : decode cX1_formattedByte 16 = .ok (.ifCond .eq 14, 3) := sorry
theorem dX1_formattedByte_19 : decode cX1_formattedByte 19 = .ok (.aload_n 0, 1) := sorry
theorem dX1_formattedByte_20 : decode cX1_formattedByte 20 = .ok (.getfield 50, 3) := sorry
theorem dX1_formattedByte_23 : decode cX1_formattedByte 23 = .ok (.iload_n 1, 1) := sorry
theorem dX1_formattedByte_24 : decode cX1_formattedByte 24 = .ok (.invokevirtual 402, 3) := sorry
theorem dX1_formattedByte_27 : decode cX1_formattedByte 27 = .ok (.goto 4, 3) := sorry
theorem dX1_formattedByte_30 : decode cX1_formattedByte 30 = .ok (.iconst (-1), 1) := sorry
theorem dX1_formattedByte_31 : decode cX1_formattedByte 31 = .ok (.ireturn, 1) := sorry
abbrev cX1_load : ByteArray := prog_1_method_10_code
def yX1_load : MethodName := ⟨RX1, "load", "()I"⟩
def dkwX1_load_4 : List UInt8 := [180, 0, 91, 182, 0, 95, 172]
abbrev dktX1_load_4 : List UInt8 := dkwX1_load_4 ++ []
def dkwX1_load_3 : List UInt8 := [187, 0, 54, 89, 42, 183, 0, 56, 181, 0, 59, 42, 180, 0, 32, 182, 0, 88, 42, 180, 0, 43]
abbrev dktX1_load_3 : List UInt8 := dkwX1_load_3 ++ dktX1_load_4
def dkwX1_load_2 : List UInt8 := [183, 0, 3, 191, 42, 2, 181, 0, 36, 42, 3, 181, 0, 82, 42, 43, 180, 0, 85, 181, 0, 43, 42]
abbrev dktX1_load_2 : List UInt8 := dkwX1_load_2 ++ dktX1_load_3
def dkwX1_load_1 : List UInt8 := [167, 0, 28, 77, 42, 44, 180, 0, 76, 181, 0, 36, 42, 44, 180, 0, 79, 181, 0, 82, 187, 0, 1, 89]
abbrev dktX1_load_1 : List UInt8 := dkwX1_load_1 ++ dktX1_load_2
def dkwX1_load_0 : List UInt8 := [187, 0, 66, 89, 42, 42, 180, 0, 63, 183, 0, 68, 76, 42, 3, 181, 0, 63, 43, 182, 0, 71]
abbrev dktX1_load_0 : List UInt8 := dkwX1_load_0 ++ dktX1_load_1
theorem dksX1_load_0 : cX1_load.data.toList.drop 0 = dktX1_load_0 := sorry
theorem dksX1_load_1 : cX1_load.data.toList.drop 22 = dktX1_load_1 := sorry
theorem dksX1_load_2 : cX1_load.data.toList.drop 46 = dktX1_load_2 := sorry
theorem dksX1_load_3 : cX1_load.data.toList.drop 69 = dktX1_load_3 := sorry
theorem dksX1_load_4 : cX1_load.data.toList.drop 91 = dktX1_load_4 := sorry
theorem dX1_load_0 : decode cX1_load 0 = .ok (.new 66, 3) := sorry
theorem dX1_load_3 : decode cX1_load 3 = .ok (.dup, 1) := sorry
theorem dX1_load_4 : decode cX1_load 4 = .ok (.aload_n 0, 1) := sorry
theorem dX1_load_5 : decode cX1_load 5 = .ok (.aload_n 0, 1) := sorry
theorem dX1_load_6 : decode cX1_load 6 = .ok (.getfield 63, 3) := sorry
theorem dX1_load_9 : decode cX1_load 9 = .ok (.invokespecial 68, 3) := sorry
theorem dX1_load_12 : decode cX1_load 12 = .ok (.astore_n 1, 1) := sorry
theorem dX1_load_13 : decode cX1_load 13 = .ok (.aload_n 0, 1) := sorry
theorem dX1_load_14 : decode cX1_load 14 = .ok (.iconst 0, 1) := sorry
theorem dX1_load_15 : decode cX1_load 15 = .ok (.putfield 63, 3) := sorry
theorem dX1_load_18 : decode cX1_load 18 = .ok (.aload_n 1, 1) := sorry
theorem dX1_load_19 : decode cX1_load 19 = .ok (.invokevirtual 71, 3) := sorry
theorem dX1_load_22 : decode cX1_load 22 = .ok (.goto 28, 3) := sorry
theorem dX1_load_25 : decode cX1_load 25 = .ok (.astore_n 2, 1) := sorry
theorem dX1_load_26 : decode cX1_load 26 = .ok (.aload_n 0, 1) := sorry
theorem dX1_load_27 : decode cX1_load 27 = .ok (.aload_n 2, 1) := sorry
theorem dX1_load_28 : decode cX1_load 28 = .ok (.getfield 76, 3) := sorry
theorem dX1_load_31 : decode cX1_load 31 = .ok (.putfield 36, 3) := sorry
theorem dX1_load_34 : decode cX1_load 34 = .ok (.aload_n 0, 1) := sorry
theorem dX1_load_35 : decode cX1_load 35 = .ok (.aload_n 2, 1) := sorry
theorem dX1_load_36 : decode cX1_load 36 = .ok (.getfield 79, 3) := sorry
theorem dX1_load_39 : decode cX1_load 39 = .ok (.putfield 82, 3) := sorry
theorem dX1_load_42 : decode cX1_load 42 = .ok (.new 1, 3) := sorry
theorem dX1_load_45 : decode cX1_load 45 = .ok (.dup, 1) := sorry
theorem dX1_load_46 : decode cX1_load 46 = .ok (.invokespecial 3, 3) := sorry
theorem dX1_load_49 : decode cX1_load 49 = .ok (.athrow, 1) := sorry
theorem dX1_load_50 : decode cX1_load 50 = .ok (.aload_n 0, 1) := sorry
theorem dX1_load_51 : decode cX1_load 51 = .ok (.iconst (-1), 1) := sorry
theorem dX1_load_52 : decode cX1_load 52 = .ok (.putfield 36, 3) := sorry
theorem dX1_load_55 : decode cX1_load 55 = .ok (.aload_n 0, 1) := sorry
theorem dX1_load_56 : decode cX1_load 56 = .ok (.iconst 0, 1) := sorry
theorem dX1_load_57 : decode cX1_load 57 = .ok (.putfield 82, 3) := sorry
theorem dX1_load_60 : decode cX1_load 60 = .ok (.aload_n 0, 1) := sorry
theorem dX1_load_61 : decode cX1_load 61 = .ok (.aload_n 1, 1) := sorry
theorem dX1_load_62 : decode cX1_load 62 = .ok (.getfield 85, 3) := sorry
theorem dX1_load_65 : decode cX1_load 65 = .ok (.putfield 43, 3) := sorry
theorem dX1_load_68 : decode cX1_load 68 = .ok (.aload_n 0, 1) := sorry
theorem dX1_load_69 : decode cX1_load 69 = .ok (.new 54, 3) := sorry
theorem dX1_load_72 : decode cX1_load 72 = .ok (.dup, 1) := sorry
theorem dX1_load_73 : decode cX1_load 73 = .ok (.aload_n 0, 1) := sorry
theorem dX1_load_74 : decode cX1_load 74 = .ok (.invokespecial 56, 3) := sorry
theorem dX1_load_77 : decode cX1_load 77 = .ok (.putfield 59, 3) := sorry
theorem dX1_load_80 : decode cX1_load 80 = .ok (.aload_n 0, 1) := sorry
theorem dX1_load_81 : decode cX1_load 81 = .ok (.getfield 32, 3) := sorry
theorem dX1_load_84 : decode cX1_load 84 = .ok (.invokevirtual 88, 3) := sorry
theorem dX1_load_87 : decode cX1_load 87 = .ok (.aload_n 0, 1) := sorry
theorem dX1_load_88 : decode cX1_load 88 = .ok (.getfield 43, 3) := sorry
theorem dX1_load_91 : decode cX1_load 91 = .ok (.getfield 91, 3) := sorry
theorem dX1_load_94 : decode cX1_load 94 = .ok (.invokevirtual 95, 3) := sorry
theorem dX1_load_97 : decode cX1_load 97 = .ok (.ireturn, 1) := sorry
abbrev cX1_mountRoll : ByteArray := prog_1_method_16_code
def yX1_mountRoll : MethodName := ⟨RX1, "mountRoll", "(IIIII)I"⟩
def dkwX1_mountRoll_6 : List UInt8 := [42, 180, 0, 59, 180, 0, 113, 182, 0, 160, 172]
abbrev dktX1_mountRoll_6 : List UInt8 := dkwX1_mountRoll_6 ++ []
def dkwX1_mountRoll_5 : List UInt8 := [180, 0, 151, 4, 100, 181, 0, 154, 42, 180, 0, 59, 3, 181, 0, 157, 42, 180, 0, 59, 3, 181, 0, 121]
abbrev dktX1_mountRoll_5 : List UInt8 := dkwX1_mountRoll_5 ++ dktX1_mountRoll_6
def dkwX1_mountRoll_4 : List UInt8 := [183, 0, 145, 181, 0, 113, 42, 180, 0, 59, 3, 181, 0, 148, 42, 180, 0, 59, 42, 180, 0, 43]
abbrev dktX1_mountRoll_4 : List UInt8 := dkwX1_mountRoll_4 ++ dktX1_mountRoll_5
def dkwX1_mountRoll_3 : List UInt8 := [184, 0, 137, 42, 182, 0, 140, 42, 180, 0, 59, 187, 0, 143, 89, 27, 28, 29, 21, 4, 21, 5]
abbrev dktX1_mountRoll_3 : List UInt8 := dkwX1_mountRoll_3 ++ dktX1_mountRoll_4
def dkwX1_mountRoll_2 : List UInt8 := [184, 0, 10, 153, 0, 20, 21, 5, 133, 9, 20, 0, 135, 184, 0, 10, 153, 0, 7, 4, 167, 0, 4, 3]
abbrev dktX1_mountRoll_2 : List UInt8 := dkwX1_mountRoll_2 ++ dktX1_mountRoll_3
def dkwX1_mountRoll_1 : List UInt8 := [153, 0, 47, 29, 133, 20, 0, 131, 20, 0, 133, 184, 0, 10, 153, 0, 33, 21, 4, 133, 9, 20, 0, 135]
abbrev dktX1_mountRoll_1 : List UInt8 := dkwX1_mountRoll_1 ++ dktX1_mountRoll_2
def dkwX1_mountRoll_0 : List UInt8 := [27, 133, 10, 20, 0, 125, 184, 0, 10, 153, 0, 61, 28, 133, 20, 0, 127, 20, 0, 129, 184, 0, 10]
abbrev dktX1_mountRoll_0 : List UInt8 := dkwX1_mountRoll_0 ++ dktX1_mountRoll_1
theorem dksX1_mountRoll_0 : cX1_mountRoll.data.toList.drop 0 = dktX1_mountRoll_0 := sorry
theorem dksX1_mountRoll_1 : cX1_mountRoll.data.toList.drop 23 = dktX1_mountRoll_1 := sorry
theorem dksX1_mountRoll_2 : cX1_mountRoll.data.toList.drop 47 = dktX1_mountRoll_2 := sorry
theorem dksX1_mountRoll_3 : cX1_mountRoll.data.toList.drop 71 = dktX1_mountRoll_3 := sorry
theorem dksX1_mountRoll_4 : cX1_mountRoll.data.toList.drop 93 = dktX1_mountRoll_4 := sorry
theorem dksX1_mountRoll_5 : cX1_mountRoll.data.toList.drop 115 = dktX1_mountRoll_5 := sorry
theorem dksX1_mountRoll_6 : cX1_mountRoll.data.toList.drop 139 = dktX1_mountRoll_6 := sorry
theorem dX1_mountRoll_0 : decode cX1_mountRoll 0 = .ok (.iload_n 1, 1) := sorry
theorem dX1_mountRoll_1 : decode cX1_mountRoll 1 = .ok (.i2l, 1) := sorry
theorem dX1_mountRoll_2 : decode cX1_mountRoll 2 = .ok (.lconst 1, 1) := sorry
theorem dX1_mountRoll_3 : decode cX1_mountRoll 3 = .ok (.ldc2_w 125, 3) := sorry
theorem dX1_mountRoll_6 : decode cX1_mountRoll 6 = .ok (.invokestatic 10, 3) := sorry
theorem dX1_mountRoll_9 : decode cX1_mountRoll 9 = .ok (.ifCond .eq 61, 3) := sorry
theorem dX1_mountRoll_12 : decode cX1_mountRoll 12 = .ok (.iload_n 2, 1) := sorry
theorem dX1_mountRoll_13 : decode cX1_mountRoll 13 = .ok (.i2l, 1) := sorry
theorem dX1_mountRoll_14 : decode cX1_mountRoll 14 = .ok (.ldc2_w 127, 3) := sorry
theorem dX1_mountRoll_17 : decode cX1_mountRoll 17 = .ok (.ldc2_w 129, 3) := sorry
theorem dX1_mountRoll_20 : decode cX1_mountRoll 20 = .ok (.invokestatic 10, 3) := sorry
theorem dX1_mountRoll_23 : decode cX1_mountRoll 23 = .ok (.ifCond .eq 47, 3) := sorry
theorem dX1_mountRoll_26 : decode cX1_mountRoll 26 = .ok (.iload_n 3, 1) := sorry
theorem dX1_mountRoll_27 : decode cX1_mountRoll 27 = .ok (.i2l, 1) := sorry
theorem dX1_mountRoll_28 : decode cX1_mountRoll 28 = .ok (.ldc2_w 131, 3) := sorry
theorem dX1_mountRoll_31 : decode cX1_mountRoll 31 = .ok (.ldc2_w 133, 3) := sorry
theorem dX1_mountRoll_34 : decode cX1_mountRoll 34 = .ok (.invokestatic 10, 3) := sorry
theorem dX1_mountRoll_37 : decode cX1_mountRoll 37 = .ok (.ifCond .eq 33, 3) := sorry
theorem dX1_mountRoll_40 : decode cX1_mountRoll 40 = .ok (.iload 4, 2) := sorry
theorem dX1_mountRoll_42 : decode cX1_mountRoll 42 = .ok (.i2l, 1) := sorry
theorem dX1_mountRoll_43 : decode cX1_mountRoll 43 = .ok (.lconst 0, 1) := sorry
theorem dX1_mountRoll_44 : decode cX1_mountRoll 44 = .ok (.ldc2_w 135, 3) := sorry
theorem dX1_mountRoll_47 : decode cX1_mountRoll 47 = .ok (.invokestatic 10, 3) := sorry
theorem dX1_mountRoll_50 : decode cX1_mountRoll 50 = .ok (.ifCond .eq 20, 3) := sorry
theorem dX1_mountRoll_53 : decode cX1_mountRoll 53 = .ok (.iload 5, 2) := sorry
theorem dX1_mountRoll_55 : decode cX1_mountRoll 55 = .ok (.i2l, 1) := sorry
theorem dX1_mountRoll_56 : decode cX1_mountRoll 56 = .ok (.lconst 0, 1) := sorry
theorem dX1_mountRoll_57 : decode cX1_mountRoll 57 = .ok (.ldc2_w 135, 3) := sorry
theorem dX1_mountRoll_60 : decode cX1_mountRoll 60 = .ok (.invokestatic 10, 3) := sorry
theorem dX1_mountRoll_63 : decode cX1_mountRoll 63 = .ok (.ifCond .eq 7, 3) := sorry
theorem dX1_mountRoll_66 : decode cX1_mountRoll 66 = .ok (.iconst 1, 1) := sorry
theorem dX1_mountRoll_67 : decode cX1_mountRoll 67 = .ok (.goto 4, 3) := sorry
theorem dX1_mountRoll_70 : decode cX1_mountRoll 70 = .ok (.iconst 0, 1) := sorry
theorem dX1_mountRoll_71 : decode cX1_mountRoll 71 = .ok (.invokestatic 137, 3) := sorry
theorem dX1_mountRoll_74 : decode cX1_mountRoll 74 = .ok (.aload_n 0, 1) := sorry
theorem dX1_mountRoll_75 : decode cX1_mountRoll 75 = .ok (.invokevirtual 140, 3) := sorry
theorem dX1_mountRoll_78 : decode cX1_mountRoll 78 = .ok (.aload_n 0, 1) := sorry
theorem dX1_mountRoll_79 : decode cX1_mountRoll 79 = .ok (.getfield 59, 3) := sorry
theorem dX1_mountRoll_82 : decode cX1_mountRoll 82 = .ok (.new 143, 3) := sorry
theorem dX1_mountRoll_85 : decode cX1_mountRoll 85 = .ok (.dup, 1) := sorry
theorem dX1_mountRoll_86 : decode cX1_mountRoll 86 = .ok (.iload_n 1, 1) := sorry
theorem dX1_mountRoll_87 : decode cX1_mountRoll 87 = .ok (.iload_n 2, 1) := sorry
theorem dX1_mountRoll_88 : decode cX1_mountRoll 88 = .ok (.iload_n 3, 1) := sorry
theorem dX1_mountRoll_89 : decode cX1_mountRoll 89 = .ok (.iload 4, 2) := sorry
theorem dX1_mountRoll_91 : decode cX1_mountRoll 91 = .ok (.iload 5, 2) := sorry
theorem dX1_mountRoll_93 : decode cX1_mountRoll 93 = .ok (.invokespecial 145, 3) := sorry
theorem dX1_mountRoll_96 : decode cX1_mountRoll 96 = .ok (.putfield 113, 3) := sorry
theorem dX1_mountRoll_99 : decode cX1_mountRoll 99 = .ok (.aload_n 0, 1) := sorry
theorem dX1_mountRoll_100 : decode cX1_mountRoll 100 = .ok (.getfield 59, 3) := sorry
theorem dX1_mountRoll_103 : decode cX1_mountRoll 103 = .ok (.iconst 0, 1) := sorry
theorem dX1_mountRoll_104 : decode cX1_mountRoll 104 = .ok (.putfield 148, 3) := sorry
theorem dX1_mountRoll_107 : decode cX1_mountRoll 107 = .ok (.aload_n 0, 1) := sorry
theorem dX1_mountRoll_108 : decode cX1_mountRoll 108 = .ok (.getfield 59, 3) := sorry
theorem dX1_mountRoll_111 : decode cX1_mountRoll 111 = .ok (.aload_n 0, 1) := sorry
theorem dX1_mountRoll_112 : decode cX1_mountRoll 112 = .ok (.getfield 43, 3) := sorry
theorem dX1_mountRoll_115 : decode cX1_mountRoll 115 = .ok (.getfield 151, 3) := sorry
theorem dX1_mountRoll_118 : decode cX1_mountRoll 118 = .ok (.iconst 1, 1) := sorry
theorem dX1_mountRoll_119 : decode cX1_mountRoll 119 = .ok (.isub, 1) := sorry
theorem dX1_mountRoll_120 : decode cX1_mountRoll 120 = .ok (.putfield 154, 3) := sorry
theorem dX1_mountRoll_123 : decode cX1_mountRoll 123 = .ok (.aload_n 0, 1) := sorry
theorem dX1_mountRoll_124 : decode cX1_mountRoll 124 = .ok (.getfield 59, 3) := sorry
theorem dX1_mountRoll_127 : decode cX1_mountRoll 127 = .ok (.iconst 0, 1) := sorry
theorem dX1_mountRoll_128 : decode cX1_mountRoll 128 = .ok (.putfield 157, 3) := sorry
theorem dX1_mountRoll_131 : decode cX1_mountRoll 131 = .ok (.aload_n 0, 1) := sorry
theorem dX1_mountRoll_132 : decode cX1_mountRoll 132 = .ok (.getfield 59, 3) := sorry
theorem dX1_mountRoll_135 : decode cX1_mountRoll 135 = .ok (.iconst 0, 1) := sorry
theorem dX1_mountRoll_136 : decode cX1_mountRoll 136 = .ok (.putfield 121, 3) := sorry
theorem dX1_mountRoll_139 : decode cX1_mountRoll 139 = .ok (.aload_n 0, 1) := sorry
theorem dX1_mountRoll_140 : decode cX1_mountRoll 140 = .ok (.getfield 59, 3) := sorry
theorem dX1_mountRoll_143 : decode cX1_mountRoll 143 = .ok (.getfield 113, 3) := sorry
theorem dX1_mountRoll_146 : decode cX1_mountRoll 146 = .ok (.invokevirtual 160, 3) := sorry
theorem dX1_mountRoll_149 : decode cX1_mountRoll 149 = .ok (.ireturn, 1) := sorry
abbrev cX1_checkArgument : ByteArray := prog_1_method_2_code
def yX1_checkArgument : MethodName := ⟨RX1, "checkArgument", "(Z)V"⟩
def dkwX1_checkArgument_0 : List UInt8 := [26, 154, 0, 11, 187, 0, 1, 89, 183, 0, 3, 191, 177]
abbrev dktX1_checkArgument_0 : List UInt8 := dkwX1_checkArgument_0 ++ []
theorem dksX1_checkArgument_0 : cX1_checkArgument.data.toList.drop 0 = dktX1_checkArgument_0 := sorry
theorem dX1_checkArgument_0 : decode cX1_checkArgument 0 = .ok (.iload_n 0, 1) := sorry
theorem dX1_checkArgument_1 : decode cX1_checkArgument 1 = .ok (.ifCond .ne 11, 3) := sorry
theorem dX1_checkArgument_4 : decode cX1_checkArgument 4 = .ok (.new 1, 3) := sorry
theorem dX1_checkArgument_7 : decode cX1_checkArgument 7 = .ok (.dup, 1) := sorry
theorem dX1_checkArgument_8 : decode cX1_checkArgument 8 = .ok (.invokespecial 3, 3) := sorry
theorem dX1_checkArgument_11 : decode cX1_checkArgument 11 = .ok (.athrow, 1) := sorry
theorem dX1_checkArgument_12 : decode cX1_checkArgument 12 = .ok (.return_, 1) := sorry
abbrev cX1_keep : ByteArray := prog_1_method_13_code
def yX1_keep : MethodName := ⟨RX1, "keep", "()V"⟩
def dkwX1_keep_1 : List UInt8 := [187, 0, 54, 89, 42, 42, 180, 0, 59, 183, 0, 106, 182, 0, 109, 177]
abbrev dktX1_keep_1 : List UInt8 := dkwX1_keep_1 ++ []
def dkwX1_keep_0 : List UInt8 := [42, 180, 0, 32, 182, 0, 101, 16, 8, 160, 0, 11, 42, 180, 0, 32, 182, 0, 102, 87, 42, 180, 0, 32]
abbrev dktX1_keep_0 : List UInt8 := dkwX1_keep_0 ++ dktX1_keep_1
theorem dksX1_keep_0 : cX1_keep.data.toList.drop 0 = dktX1_keep_0 := sorry
theorem dksX1_keep_1 : cX1_keep.data.toList.drop 24 = dktX1_keep_1 := sorry
theorem dX1_keep_0 : decode cX1_keep 0 = .ok (.aload_n 0, 1) := sorry
theorem dX1_keep_1 : decode cX1_keep 1 = .ok (.getfield 32, 3) := sorry
theorem dX1_keep_4 : decode cX1_keep 4 = .ok (.invokevirtual 101, 3) := sorry
theorem dX1_keep_7 : decode cX1_keep 7 = .ok (.bipush 8, 2) := sorry
theorem dX1_keep_9 : decode cX1_keep 9 = .ok (.if_icmp .ne 11, 3) := sorry
theorem dX1_keep_12 : decode cX1_keep 12 = .ok (.aload_n 0, 1) := sorry
theorem dX1_keep_13 : decode cX1_keep 13 = .ok (.getfield 32, 3) := sorry
theorem dX1_keep_16 : decode cX1_keep 16 = .ok (.invokevirtual 102, 3) := sorry
theorem dX1_keep_19 : decode cX1_keep 19 = .ok (.pop, 1) := sorry
theorem dX1_keep_20 : decode cX1_keep 20 = .ok (.aload_n 0, 1) := sorry
theorem dX1_keep_21 : decode cX1_keep 21 = .ok (.getfield 32, 3) := sorry
theorem dX1_keep_24 : decode cX1_keep 24 = .ok (.new 54, 3) := sorry
theorem dX1_keep_27 : decode cX1_keep 27 = .ok (.dup, 1) := sorry
theorem dX1_keep_28 : decode cX1_keep 28 = .ok (.aload_n 0, 1) := sorry
theorem dX1_keep_29 : decode cX1_keep 29 = .ok (.aload_n 0, 1) := sorry
theorem dX1_keep_30 : decode cX1_keep 30 = .ok (.getfield 59, 3) := sorry
theorem dX1_keep_33 : decode cX1_keep 33 = .ok (.invokespecial 106, 3) := sorry
theorem dX1_keep_36 : decode cX1_keep 36 = .ok (.invokevirtual 109, 3) := sorry
theorem dX1_keep_39 : decode cX1_keep 39 = .ok (.return_, 1) := sorry
abbrev cX1_stretch : ByteArray := prog_1_method_17_code
def yX1_stretch : MethodName := ⟨RX1, "stretch", "(II)I"⟩
def dkwX1_stretch_4 : List UInt8 := [180, 0, 59, 180, 0, 113, 27, 28, 182, 0, 182, 42, 180, 0, 59, 180, 0, 113, 182, 0, 160, 172]
abbrev dktX1_stretch_4 : List UInt8 := dkwX1_stretch_4 ++ []
def dkwX1_stretch_3 : List UInt8 := [180, 0, 179, 28, 96, 4, 161, 0, 7, 4, 167, 0, 4, 3, 184, 0, 137, 42, 182, 0, 140, 42]
abbrev dktX1_stretch_3 : List UInt8 := dkwX1_stretch_3 ++ dktX1_stretch_4
def dkwX1_stretch_2 : List UInt8 := [184, 0, 117, 28, 133, 20, 0, 177, 20, 0, 127, 184, 0, 10, 153, 0, 23, 42, 180, 0, 59, 180, 0, 113]
abbrev dktX1_stretch_2 : List UInt8 := dkwX1_stretch_2 ++ dktX1_stretch_3
def dkwX1_stretch_1 : List UInt8 := [180, 0, 113, 180, 0, 173, 27, 46, 42, 180, 0, 59, 180, 0, 154, 164, 0, 7, 4, 167, 0, 4, 3]
abbrev dktX1_stretch_1 : List UInt8 := dkwX1_stretch_1 ++ dktX1_stretch_2
def dkwX1_stretch_0 : List UInt8 := [42, 182, 0, 163, 27, 42, 180, 0, 59, 180, 0, 113, 180, 0, 166, 184, 0, 169, 42, 180, 0, 59]
abbrev dktX1_stretch_0 : List UInt8 := dkwX1_stretch_0 ++ dktX1_stretch_1
theorem dksX1_stretch_0 : cX1_stretch.data.toList.drop 0 = dktX1_stretch_0 := sorry
theorem dksX1_stretch_1 : cX1_stretch.data.toList.drop 22 = dktX1_stretch_1 := sorry
theorem dksX1_stretch_2 : cX1_stretch.data.toList.drop 45 = dktX1_stretch_2 := sorry
theorem dksX1_stretch_3 : cX1_stretch.data.toList.drop 69 = dktX1_stretch_3 := sorry
theorem dksX1_stretch_4 : cX1_stretch.data.toList.drop 91 = dktX1_stretch_4 := sorry
theorem dX1_stretch_0 : decode cX1_stretch 0 = .ok (.aload_n 0, 1) := sorry
theorem dX1_stretch_1 : decode cX1_stretch 1 = .ok (.invokevirtual 163, 3) := sorry
theorem dX1_stretch_4 : decode cX1_stretch 4 = .ok (.iload_n 1, 1) := sorry
theorem dX1_stretch_5 : decode cX1_stretch 5 = .ok (.aload_n 0, 1) := sorry
theorem dX1_stretch_6 : decode cX1_stretch 6 = .ok (.getfield 59, 3) := sorry
theorem dX1_stretch_9 : decode cX1_stretch 9 = .ok (.getfield 113, 3) := sorry
theorem dX1_stretch_12 : decode cX1_stretch 12 = .ok (.getfield 166, 3) := sorry
theorem dX1_stretch_15 : decode cX1_stretch 15 = .ok (.invokestatic 169, 3) := sorry
theorem dX1_stretch_18 : decode cX1_stretch 18 = .ok (.aload_n 0, 1) := sorry
theorem dX1_stretch_19 : decode cX1_stretch 19 = .ok (.getfield 59, 3) := sorry
theorem dX1_stretch_22 : decode cX1_stretch 22 = .ok (.getfield 113, 3) := sorry
theorem dX1_stretch_25 : decode cX1_stretch 25 = .ok (.getfield 173, 3) := sorry
theorem dX1_stretch_28 : decode cX1_stretch 28 = .ok (.iload_n 1, 1) := sorry
theorem dX1_stretch_29 : decode cX1_stretch 29 = .ok (.iaload, 1) := sorry
theorem dX1_stretch_30 : decode cX1_stretch 30 = .ok (.aload_n 0, 1) := sorry
theorem dX1_stretch_31 : decode cX1_stretch 31 = .ok (.getfield 59, 3) := sorry
theorem dX1_stretch_34 : decode cX1_stretch 34 = .ok (.getfield 154, 3) := sorry
theorem dX1_stretch_37 : decode cX1_stretch 37 = .ok (.if_icmp .le 7, 3) := sorry
theorem dX1_stretch_40 : decode cX1_stretch 40 = .ok (.iconst 1, 1) := sorry
theorem dX1_stretch_41 : decode cX1_stretch 41 = .ok (.goto 4, 3) := sorry
theorem dX1_stretch_44 : decode cX1_stretch 44 = .ok (.iconst 0, 1) := sorry
theorem dX1_stretch_45 : decode cX1_stretch 45 = .ok (.invokestatic 117, 3) := sorry
theorem dX1_stretch_48 : decode cX1_stretch 48 = .ok (.iload_n 2, 1) := sorry
theorem dX1_stretch_49 : decode cX1_stretch 49 = .ok (.i2l, 1) := sorry
theorem dX1_stretch_50 : decode cX1_stretch 50 = .ok (.ldc2_w 177, 3) := sorry
theorem dX1_stretch_53 : decode cX1_stretch 53 = .ok (.ldc2_w 127, 3) := sorry
theorem dX1_stretch_56 : decode cX1_stretch 56 = .ok (.invokestatic 10, 3) := sorry
theorem dX1_stretch_59 : decode cX1_stretch 59 = .ok (.ifCond .eq 23, 3) := sorry
theorem dX1_stretch_62 : decode cX1_stretch 62 = .ok (.aload_n 0, 1) := sorry
theorem dX1_stretch_63 : decode cX1_stretch 63 = .ok (.getfield 59, 3) := sorry
theorem dX1_stretch_66 : decode cX1_stretch 66 = .ok (.getfield 113, 3) := sorry
theorem dX1_stretch_69 : decode cX1_stretch 69 = .ok (.getfield 179, 3) := sorry
theorem dX1_stretch_72 : decode cX1_stretch 72 = .ok (.iload_n 2, 1) := sorry
theorem dX1_stretch_73 : decode cX1_stretch 73 = .ok (.iadd, 1) := sorry
theorem dX1_stretch_74 : decode cX1_stretch 74 = .ok (.iconst 1, 1) := sorry
theorem dX1_stretch_75 : decode cX1_stretch 75 = .ok (.if_icmp .lt 7, 3) := sorry
theorem dX1_stretch_78 : decode cX1_stretch 78 = .ok (.iconst 1, 1) := sorry
theorem dX1_stretch_79 : decode cX1_stretch 79 = .ok (.goto 4, 3) := sorry
theorem dX1_stretch_82 : decode cX1_stretch 82 = .ok (.iconst 0, 1) := sorry
theorem dX1_stretch_83 : decode cX1_stretch 83 = .ok (.invokestatic 137, 3) := sorry
theorem dX1_stretch_86 : decode cX1_stretch 86 = .ok (.aload_n 0, 1) := sorry
theorem dX1_stretch_87 : decode cX1_stretch 87 = .ok (.invokevirtual 140, 3) := sorry
theorem dX1_stretch_90 : decode cX1_stretch 90 = .ok (.aload_n 0, 1) := sorry
theorem dX1_stretch_91 : decode cX1_stretch 91 = .ok (.getfield 59, 3) := sorry
theorem dX1_stretch_94 : decode cX1_stretch 94 = .ok (.getfield 113, 3) := sorry
theorem dX1_stretch_97 : decode cX1_stretch 97 = .ok (.iload_n 1, 1) := sorry
theorem dX1_stretch_98 : decode cX1_stretch 98 = .ok (.iload_n 2, 1) := sorry
theorem dX1_stretch_99 : decode cX1_stretch 99 = .ok (.invokevirtual 182, 3) := sorry
theorem dX1_stretch_102 : decode cX1_stretch 102 = .ok (.aload_n 0, 1) := sorry
theorem dX1_stretch_103 : decode cX1_stretch 103 = .ok (.getfield 59, 3) := sorry
theorem dX1_stretch_106 : decode cX1_stretch 106 = .ok (.getfield 113, 3) := sorry
theorem dX1_stretch_109 : decode cX1_stretch 109 = .ok (.invokevirtual 160, 3) := sorry
theorem dX1_stretch_112 : decode cX1_stretch 112 = .ok (.ireturn, 1) := sorry
abbrev cX1_checkRoll : ByteArray := prog_1_method_14_code
def yX1_checkRoll : MethodName := ⟨RX1, "checkRoll", "()V"⟩
def dkwX1_checkRoll_0 : List UInt8 := [42, 180, 0, 59, 180, 0, 113, 198, 0, 7, 4, 167, 0, 4, 3, 184, 0, 117, 177]
abbrev dktX1_checkRoll_0 : List UInt8 := dkwX1_checkRoll_0 ++ []
theorem dksX1_checkRoll_0 : cX1_checkRoll.data.toList.drop 0 = dktX1_checkRoll_0 := sorry
theorem dX1_checkRoll_0 : decode cX1_checkRoll 0 = .ok (.aload_n 0, 1) := sorry
theorem dX1_checkRoll_1 : decode cX1_checkRoll 1 = .ok (.getfield 59, 3) := sorry
theorem dX1_checkRoll_4 : decode cX1_checkRoll 4 = .ok (.getfield 113, 3) := sorry
theorem dX1_checkRoll_7 : decode cX1_checkRoll 7 = .ok (.ifnull 7, 3) := sorry
theorem dX1_checkRoll_10 : decode cX1_checkRoll 10 = .ok (.iconst 1, 1) := sorry
theorem dX1_checkRoll_11 : decode cX1_checkRoll 11 = .ok (.goto 4, 3) := sorry
theorem dX1_checkRoll_14 : decode cX1_checkRoll 14 = .ok (.iconst 0, 1) := sorry
theorem dX1_checkRoll_15 : decode cX1_checkRoll 15 = .ok (.invokestatic 117, 3) := sorry
theorem dX1_checkRoll_18 : decode cX1_checkRoll 18 = .ok (.return_, 1) := sorry
abbrev cX1_checkState : ByteArray := prog_1_method_3_code
def yX1_checkState : MethodName := ⟨RX1, "checkState", "(Z)V"⟩
def dkwX1_checkState_0 : List UInt8 := [26, 154, 0, 11, 187, 0, 7, 89, 183, 0, 9, 191, 177]
abbrev dktX1_checkState_0 : List UInt8 := dkwX1_checkState_0 ++ []
theorem dksX1_checkState_0 : cX1_checkState.data.toList.drop 0 = dktX1_checkState_0 := sorry
theorem dX1_checkState_0 : decode cX1_checkState 0 = .ok (.iload_n 0, 1) := sorry
theorem dX1_checkState_1 : decode cX1_checkState 1 = .ok (.ifCond .ne 11, 3) := sorry
theorem dX1_checkState_4 : decode cX1_checkState 4 = .ok (.new 7, 3) := sorry
theorem dX1_checkState_7 : decode cX1_checkState 7 = .ok (.dup, 1) := sorry
theorem dX1_checkState_8 : decode cX1_checkState 8 = .ok (.invokespecial 9, 3) := sorry
theorem dX1_checkState_11 : decode cX1_checkState 11 = .ok (.athrow, 1) := sorry
theorem dX1_checkState_12 : decode cX1_checkState 12 = .ok (.return_, 1) := sorry
abbrev cX1_mountRibbon : ByteArray := prog_1_method_18_code
def yX1_mountRibbon : MethodName := ⟨RX1, "mountRibbon", "(I)I"⟩
def dkwX1_mountRibbon_1 : List UInt8 := [42, 180, 0, 59, 27, 181, 0, 187, 28, 172]
abbrev dktX1_mountRibbon_1 : List UInt8 := dkwX1_mountRibbon_1 ++ []
def dkwX1_mountRibbon_0 : List UInt8 := [27, 133, 9, 20, 0, 185, 184, 0, 10, 184, 0, 137, 42, 182, 0, 140, 42, 180, 0, 59, 180, 0, 187, 61]
abbrev dktX1_mountRibbon_0 : List UInt8 := dkwX1_mountRibbon_0 ++ dktX1_mountRibbon_1
theorem dksX1_mountRibbon_0 : cX1_mountRibbon.data.toList.drop 0 = dktX1_mountRibbon_0 := sorry
theorem dksX1_mountRibbon_1 : cX1_mountRibbon.data.toList.drop 24 = dktX1_mountRibbon_1 := sorry
theorem dX1_mountRibbon_0 : decode cX1_mountRibbon 0 = .ok (.iload_n 1, 1) := sorry
theorem dX1_mountRibbon_1 : decode cX1_mountRibbon 1 = .ok (.i2l, 1) := sorry
theorem dX1_mountRibbon_2 : decode cX1_mountRibbon 2 = .ok (.lconst 0, 1) := sorry
theorem dX1_mountRibbon_3 : decode cX1_mountRibbon 3 = .ok (.ldc2_w 185, 3) := sorry
theorem dX1_mountRibbon_6 : decode cX1_mountRibbon 6 = .ok (.invokestatic 10, 3) := sorry
theorem dX1_mountRibbon_9 : decode cX1_mountRibbon 9 = .ok (.invokestatic 137, 3) := sorry
theorem dX1_mountRibbon_12 : decode cX1_mountRibbon 12 = .ok (.aload_n 0, 1) := sorry
theorem dX1_mountRibbon_13 : decode cX1_mountRibbon 13 = .ok (.invokevirtual 140, 3) := sorry
theorem dX1_mountRibbon_16 : decode cX1_mountRibbon 16 = .ok (.aload_n 0, 1) := sorry
theorem dX1_mountRibbon_17 : decode cX1_mountRibbon 17 = .ok (.getfield 59, 3) := sorry
theorem dX1_mountRibbon_20 : decode cX1_mountRibbon 20 = .ok (.getfield 187, 3) := sorry
theorem dX1_mountRibbon_23 : decode cX1_mountRibbon 23 = .ok (.istore_n 2, 1) := sorry
theorem dX1_mountRibbon_24 : decode cX1_mountRibbon 24 = .ok (.aload_n 0, 1) := sorry
theorem dX1_mountRibbon_25 : decode cX1_mountRibbon 25 = .ok (.getfield 59, 3) := sorry
theorem dX1_mountRibbon_28 : decode cX1_mountRibbon 28 = .ok (.iload_n 1, 1) := sorry
theorem dX1_mountRibbon_29 : decode cX1_mountRibbon 29 = .ok (.putfield 187, 3) := sorry
theorem dX1_mountRibbon_32 : decode cX1_mountRibbon 32 = .ok (.iload_n 2, 1) := sorry
theorem dX1_mountRibbon_33 : decode cX1_mountRibbon 33 = .ok (.ireturn, 1) := sorry
abbrev cX1_position : ByteArray := prog_1_method_20_code
def yX1_position : MethodName := ⟨RX1, "position", "()I"⟩
def dkwX1_position_0 : List UInt8 := [42, 182, 0, 163, 42, 180, 0, 59, 180, 0, 148, 172]
abbrev dktX1_position_0 : List UInt8 := dkwX1_position_0 ++ []
theorem dksX1_position_0 : cX1_position.data.toList.drop 0 = dktX1_position_0 := sorry
theorem dX1_position_0 : decode cX1_position 0 = .ok (.aload_n 0, 1) := sorry
theorem dX1_position_1 : decode cX1_position 1 = .ok (.invokevirtual 163, 3) := sorry
theorem dX1_position_4 : decode cX1_position 4 = .ok (.aload_n 0, 1) := sorry
theorem dX1_position_5 : decode cX1_position 5 = .ok (.getfield 59, 3) := sorry
theorem dX1_position_8 : decode cX1_position 8 = .ok (.getfield 148, 3) := sorry
theorem dX1_position_11 : decode cX1_position 11 = .ok (.ireturn, 1) := sorry
abbrev cX1_webEnd : ByteArray := prog_1_method_21_code
def yX1_webEnd : MethodName := ⟨RX1, "webEnd", "()I"⟩
def dkwX1_webEnd_0 : List UInt8 := [42, 182, 0, 163, 42, 180, 0, 59, 180, 0, 113, 182, 0, 160, 172]
abbrev dktX1_webEnd_0 : List UInt8 := dkwX1_webEnd_0 ++ []
theorem dksX1_webEnd_0 : cX1_webEnd.data.toList.drop 0 = dktX1_webEnd_0 := sorry
theorem dX1_webEnd_0 : decode cX1_webEnd 0 = .ok (.aload_n 0, 1) := sorry
theorem dX1_webEnd_1 : decode cX1_webEnd 1 = .ok (.invokevirtual 163, 3) := sorry
theorem dX1_webEnd_4 : decode cX1_webEnd 4 = .ok (.aload_n 0, 1) := sorry
theorem dX1_webEnd_5 : decode cX1_webEnd 5 = .ok (.getfield 59, 3) := sorry
theorem dX1_webEnd_8 : decode cX1_webEnd 8 = .ok (.getfield 113, 3) := sorry
theorem dX1_webEnd_11 : decode cX1_webEnd 11 = .ok (.invokevirtual 160, 3) := sorry
theorem dX1_webEnd_14 : decode cX1_webEnd 14 = .ok (.ireturn, 1) := sorry
abbrev cX1_labelBegin : ByteArray := prog_1_method_22_code
def yX1_labelBegin : MethodName := ⟨RX1, "labelBegin", "(I)I"⟩
def dkwX1_labelBegin_1 : List UInt8 := [180, 0, 113, 180, 0, 173, 27, 46, 172]
abbrev dktX1_labelBegin_1 : List UInt8 := dkwX1_labelBegin_1 ++ []
def dkwX1_labelBegin_0 : List UInt8 := [42, 182, 0, 163, 27, 42, 180, 0, 59, 180, 0, 113, 180, 0, 166, 4, 96, 184, 0, 169, 42, 180, 0, 59]
abbrev dktX1_labelBegin_0 : List UInt8 := dkwX1_labelBegin_0 ++ dktX1_labelBegin_1
theorem dksX1_labelBegin_0 : cX1_labelBegin.data.toList.drop 0 = dktX1_labelBegin_0 := sorry
theorem dksX1_labelBegin_1 : cX1_labelBegin.data.toList.drop 24 = dktX1_labelBegin_1 := sorry
theorem dX1_labelBegin_0 : decode cX1_labelBegin 0 = .ok (.aload_n 0, 1) := sorry
theorem dX1_labelBegin_1 : decode cX1_labelBegin 1 = .ok (.invokevirtual 163, 3) := sorry
theorem dX1_labelBegin_4 : decode cX1_labelBegin 4 = .ok (.iload_n 1, 1) := sorry
theorem dX1_labelBegin_5 : decode cX1_labelBegin 5 = .ok (.aload_n 0, 1) := sorry
theorem dX1_labelBegin_6 : decode cX1_labelBegin 6 = .ok (.getfield 59, 3) := sorry
theorem dX1_labelBegin_9 : decode cX1_labelBegin 9 = .ok (.getfield 113, 3) := sorry
theorem dX1_labelBegin_12 : decode cX1_labelBegin 12 = .ok (.getfield 166, 3) := sorry
theorem dX1_labelBegin_15 : decode cX1_labelBegin 15 = .ok (.iconst 1, 1) := sorry
theorem dX1_labelBegin_16 : decode cX1_labelBegin 16 = .ok (.iadd, 1) := sorry
theorem dX1_labelBegin_17 : decode cX1_labelBegin 17 = .ok (.invokestatic 169, 3) := sorry
theorem dX1_labelBegin_20 : decode cX1_labelBegin 20 = .ok (.aload_n 0, 1) := sorry
theorem dX1_labelBegin_21 : decode cX1_labelBegin 21 = .ok (.getfield 59, 3) := sorry
theorem dX1_labelBegin_24 : decode cX1_labelBegin 24 = .ok (.getfield 113, 3) := sorry
theorem dX1_labelBegin_27 : decode cX1_labelBegin 27 = .ok (.getfield 173, 3) := sorry
theorem dX1_labelBegin_30 : decode cX1_labelBegin 30 = .ok (.iload_n 1, 1) := sorry
theorem dX1_labelBegin_31 : decode cX1_labelBegin 31 = .ok (.iaload, 1) := sorry
theorem dX1_labelBegin_32 : decode cX1_labelBegin 32 = .ok (.ireturn, 1) := sorry
abbrev cX1_lightAt : ByteArray := prog_1_method_23_code
def yX1_lightAt : MethodName := ⟨RX1, "lightAt", "(I)I"⟩
def dkwX1_lightAt_0 : List UInt8 := [42, 182, 0, 163, 42, 180, 0, 59, 180, 0, 113, 27, 182, 0, 190, 172]
abbrev dktX1_lightAt_0 : List UInt8 := dkwX1_lightAt_0 ++ []
theorem dksX1_lightAt_0 : cX1_lightAt.data.toList.drop 0 = dktX1_lightAt_0 := sorry
theorem dX1_lightAt_0 : decode cX1_lightAt 0 = .ok (.aload_n 0, 1) := sorry
theorem dX1_lightAt_1 : decode cX1_lightAt 1 = .ok (.invokevirtual 163, 3) := sorry
theorem dX1_lightAt_4 : decode cX1_lightAt 4 = .ok (.aload_n 0, 1) := sorry
theorem dX1_lightAt_5 : decode cX1_lightAt 5 = .ok (.getfield 59, 3) := sorry
theorem dX1_lightAt_8 : decode cX1_lightAt 8 = .ok (.getfield 113, 3) := sorry
theorem dX1_lightAt_11 : decode cX1_lightAt 11 = .ok (.iload_n 1, 1) := sorry
theorem dX1_lightAt_12 : decode cX1_lightAt 12 = .ok (.invokevirtual 190, 3) := sorry
theorem dX1_lightAt_15 : decode cX1_lightAt 15 = .ok (.ireturn, 1) := sorry
abbrev cX1_labelUnderHead : ByteArray := prog_1_method_24_code
def yX1_labelUnderHead : MethodName := ⟨RX1, "labelUnderHead", "()I"⟩
def dkwX1_labelUnderHead_0 : List UInt8 := [42, 182, 0, 163, 42, 180, 0, 59, 180, 0, 113, 42, 180, 0, 59, 180, 0, 148, 182, 0, 194, 172]
abbrev dktX1_labelUnderHead_0 : List UInt8 := dkwX1_labelUnderHead_0 ++ []
theorem dksX1_labelUnderHead_0 : cX1_labelUnderHead.data.toList.drop 0 = dktX1_labelUnderHead_0 := sorry
theorem dX1_labelUnderHead_0 : decode cX1_labelUnderHead 0 = .ok (.aload_n 0, 1) := sorry
theorem dX1_labelUnderHead_1 : decode cX1_labelUnderHead 1 = .ok (.invokevirtual 163, 3) := sorry
theorem dX1_labelUnderHead_4 : decode cX1_labelUnderHead 4 = .ok (.aload_n 0, 1) := sorry
theorem dX1_labelUnderHead_5 : decode cX1_labelUnderHead 5 = .ok (.getfield 59, 3) := sorry
theorem dX1_labelUnderHead_8 : decode cX1_labelUnderHead 8 = .ok (.getfield 113, 3) := sorry
theorem dX1_labelUnderHead_11 : decode cX1_labelUnderHead 11 = .ok (.aload_n 0, 1) := sorry
theorem dX1_labelUnderHead_12 : decode cX1_labelUnderHead 12 = .ok (.getfield 59, 3) := sorry
theorem dX1_labelUnderHead_15 : decode cX1_labelUnderHead 15 = .ok (.getfield 148, 3) := sorry
theorem dX1_labelUnderHead_18 : decode cX1_labelUnderHead 18 = .ok (.invokevirtual 194, 3) := sorry
theorem dX1_labelUnderHead_21 : decode cX1_labelUnderHead 21 = .ok (.ireturn, 1) := sorry
abbrev cX1_feed : ByteArray := prog_1_method_25_code
def yX1_feed : MethodName := ⟨RX1, "feed", "(I)I"⟩
def dkwX1_feed_3 : List UInt8 := [180, 0, 59, 180, 0, 148, 27, 96, 182, 0, 201, 42, 180, 0, 59, 180, 0, 148, 172]
abbrev dktX1_feed_3 : List UInt8 := dkwX1_feed_3 ++ []
def dkwX1_feed_2 : List UInt8 := [184, 0, 10, 153, 0, 7, 4, 167, 0, 4, 3, 184, 0, 137, 42, 182, 0, 140, 42, 180, 0, 59, 42]
abbrev dktX1_feed_2 : List UInt8 := dkwX1_feed_2 ++ dktX1_feed_3
def dkwX1_feed_1 : List UInt8 := [180, 0, 148, 27, 96, 133, 20, 0, 199, 42, 180, 0, 59, 180, 0, 113, 182, 0, 160, 17, 1, 244, 96, 133]
abbrev dktX1_feed_1 : List UInt8 := dkwX1_feed_1 ++ dktX1_feed_2
def dkwX1_feed_0 : List UInt8 := [42, 182, 0, 163, 27, 133, 20, 0, 197, 20, 0, 129, 184, 0, 10, 153, 0, 41, 42, 180, 0, 59]
abbrev dktX1_feed_0 : List UInt8 := dkwX1_feed_0 ++ dktX1_feed_1
theorem dksX1_feed_0 : cX1_feed.data.toList.drop 0 = dktX1_feed_0 := sorry
theorem dksX1_feed_1 : cX1_feed.data.toList.drop 22 = dktX1_feed_1 := sorry
theorem dksX1_feed_2 : cX1_feed.data.toList.drop 46 = dktX1_feed_2 := sorry
theorem dksX1_feed_3 : cX1_feed.data.toList.drop 69 = dktX1_feed_3 := sorry
theorem dX1_feed_0 : decode cX1_feed 0 = .ok (.aload_n 0, 1) := sorry
theorem dX1_feed_1 : decode cX1_feed 1 = .ok (.invokevirtual 163, 3) := sorry
theorem dX1_feed_4 : decode cX1_feed 4 = .ok (.iload_n 1, 1) := sorry
theorem dX1_feed_5 : decode cX1_feed 5 = .ok (.i2l, 1) := sorry
theorem dX1_feed_6 : decode cX1_feed 6 = .ok (.ldc2_w 197, 3) := sorry
theorem dX1_feed_9 : decode cX1_feed 9 = .ok (.ldc2_w 129, 3) := sorry
theorem dX1_feed_12 : decode cX1_feed 12 = .ok (.invokestatic 10, 3) := sorry
theorem dX1_feed_15 : decode cX1_feed 15 = .ok (.ifCond .eq 41, 3) := sorry
theorem dX1_feed_18 : decode cX1_feed 18 = .ok (.aload_n 0, 1) := sorry
theorem dX1_feed_19 : decode cX1_feed 19 = .ok (.getfield 59, 3) := sorry
theorem dX1_feed_22 : decode cX1_feed 22 = .ok (.getfield 148, 3) := sorry
theorem dX1_feed_25 : decode cX1_feed 25 = .ok (.iload_n 1, 1) := sorry
theorem dX1_feed_26 : decode cX1_feed 26 = .ok (.iadd, 1) := sorry
theorem dX1_feed_27 : decode cX1_feed 27 = .ok (.i2l, 1) := sorry
theorem dX1_feed_28 : decode cX1_feed 28 = .ok (.ldc2_w 199, 3) := sorry
theorem dX1_feed_31 : decode cX1_feed 31 = .ok (.aload_n 0, 1) := sorry
theorem dX1_feed_32 : decode cX1_feed 32 = .ok (.getfield 59, 3) := sorry
theorem dX1_feed_35 : decode cX1_feed 35 = .ok (.getfield 113, 3) := sorry
theorem dX1_feed_38 : decode cX1_feed 38 = .ok (.invokevirtual 160, 3) := sorry
theorem dX1_feed_41 : decode cX1_feed 41 = .ok (.sipush 500, 3) := sorry
theorem dX1_feed_44 : decode cX1_feed 44 = .ok (.iadd, 1) := sorry
theorem dX1_feed_45 : decode cX1_feed 45 = .ok (.i2l, 1) := sorry
theorem dX1_feed_46 : decode cX1_feed 46 = .ok (.invokestatic 10, 3) := sorry
theorem dX1_feed_49 : decode cX1_feed 49 = .ok (.ifCond .eq 7, 3) := sorry
theorem dX1_feed_52 : decode cX1_feed 52 = .ok (.iconst 1, 1) := sorry
theorem dX1_feed_53 : decode cX1_feed 53 = .ok (.goto 4, 3) := sorry
theorem dX1_feed_56 : decode cX1_feed 56 = .ok (.iconst 0, 1) := sorry
theorem dX1_feed_57 : decode cX1_feed 57 = .ok (.invokestatic 137, 3) := sorry
theorem dX1_feed_60 : decode cX1_feed 60 = .ok (.aload_n 0, 1) := sorry
theorem dX1_feed_61 : decode cX1_feed 61 = .ok (.invokevirtual 140, 3) := sorry
theorem dX1_feed_64 : decode cX1_feed 64 = .ok (.aload_n 0, 1) := sorry
theorem dX1_feed_65 : decode cX1_feed 65 = .ok (.getfield 59, 3) := sorry
theorem dX1_feed_68 : decode cX1_feed 68 = .ok (.aload_n 0, 1) := sorry
theorem dX1_feed_69 : decode cX1_feed 69 = .ok (.getfield 59, 3) := sorry
theorem dX1_feed_72 : decode cX1_feed 72 = .ok (.getfield 148, 3) := sorry
theorem dX1_feed_75 : decode cX1_feed 75 = .ok (.iload_n 1, 1) := sorry
theorem dX1_feed_76 : decode cX1_feed 76 = .ok (.iadd, 1) := sorry
theorem dX1_feed_77 : decode cX1_feed 77 = .ok (.invokevirtual 201, 3) := sorry
theorem dX1_feed_80 : decode cX1_feed 80 = .ok (.aload_n 0, 1) := sorry
theorem dX1_feed_81 : decode cX1_feed 81 = .ok (.getfield 59, 3) := sorry
theorem dX1_feed_84 : decode cX1_feed 84 = .ok (.getfield 148, 3) := sorry
theorem dX1_feed_87 : decode cX1_feed 87 = .ok (.ireturn, 1) := sorry
abbrev cX1_feedToForm : ByteArray := prog_1_method_26_code
def yX1_feedToForm : MethodName := ⟨RX1, "feedToForm", "()I"⟩
def dkwX1_feedToForm_1 : List UInt8 := [180, 0, 208, 182, 0, 201, 42, 180, 0, 59, 180, 0, 148, 27, 100, 172]
abbrev dktX1_feedToForm_1 : List UInt8 := dkwX1_feedToForm_1 ++ []
def dkwX1_feedToForm_0 : List UInt8 := [42, 182, 0, 205, 42, 182, 0, 140, 42, 180, 0, 59, 180, 0, 148, 60, 42, 180, 0, 59, 42, 180, 0, 59]
abbrev dktX1_feedToForm_0 : List UInt8 := dkwX1_feedToForm_0 ++ dktX1_feedToForm_1
theorem dksX1_feedToForm_0 : cX1_feedToForm.data.toList.drop 0 = dktX1_feedToForm_0 := sorry
theorem dksX1_feedToForm_1 : cX1_feedToForm.data.toList.drop 24 = dktX1_feedToForm_1 := sorry
theorem dX1_feedToForm_0 : decode cX1_feedToForm 0 = .ok (.aload_n 0, 1) := sorry
theorem dX1_feedToForm_1 : decode cX1_feedToForm 1 = .ok (.invokevirtual 205, 3) := sorry
theorem dX1_feedToForm_4 : decode cX1_feedToForm 4 = .ok (.aload_n 0, 1) := sorry
theorem dX1_feedToForm_5 : decode cX1_feedToForm 5 = .ok (.invokevirtual 140, 3) := sorry
theorem dX1_feedToForm_8 : decode cX1_feedToForm 8 = .ok (.aload_n 0, 1) := sorry
theorem dX1_feedToForm_9 : decode cX1_feedToForm 9 = .ok (.getfield 59, 3) := sorry
theorem dX1_feedToForm_12 : decode cX1_feedToForm 12 = .ok (.getfield 148, 3) := sorry
theorem dX1_feedToForm_15 : decode cX1_feedToForm 15 = .ok (.istore_n 1, 1) := sorry
theorem dX1_feedToForm_16 : decode cX1_feedToForm 16 = .ok (.aload_n 0, 1) := sorry
theorem dX1_feedToForm_17 : decode cX1_feedToForm 17 = .ok (.getfield 59, 3) := sorry
theorem dX1_feedToForm_20 : decode cX1_feedToForm 20 = .ok (.aload_n 0, 1) := sorry
theorem dX1_feedToForm_21 : decode cX1_feedToForm 21 = .ok (.getfield 59, 3) := sorry
theorem dX1_feedToForm_24 : decode cX1_feedToForm 24 = .ok (.getfield 208, 3) := sorry
theorem dX1_feedToForm_27 : decode cX1_feedToForm 27 = .ok (.invokevirtual 201, 3) := sorry
theorem dX1_feedToForm_30 : decode cX1_feedToForm 30 = .ok (.aload_n 0, 1) := sorry
theorem dX1_feedToForm_31 : decode cX1_feedToForm 31 = .ok (.getfield 59, 3) := sorry
theorem dX1_feedToForm_34 : decode cX1_feedToForm 34 = .ok (.getfield 148, 3) := sorry
theorem dX1_feedToForm_37 : decode cX1_feedToForm 37 = .ok (.iload_n 1, 1) := sorry
theorem dX1_feedToForm_38 : decode cX1_feedToForm 38 = .ok (.isub, 1) := sorry
theorem dX1_feedToForm_39 : decode cX1_feedToForm 39 = .ok (.ireturn, 1) := sorry
abbrev cX1_checkReady : ByteArray := prog_1_method_15_code
def yX1_checkReady : MethodName := ⟨RX1, "checkReady", "()V"⟩
def dkwX1_checkReady_0 : List UInt8 := [42, 180, 0, 59, 180, 0, 121, 184, 0, 117, 177]
abbrev dktX1_checkReady_0 : List UInt8 := dkwX1_checkReady_0 ++ []
theorem dksX1_checkReady_0 : cX1_checkReady.data.toList.drop 0 = dktX1_checkReady_0 := sorry
theorem dX1_checkReady_0 : decode cX1_checkReady 0 = .ok (.aload_n 0, 1) := sorry
theorem dX1_checkReady_1 : decode cX1_checkReady 1 = .ok (.getfield 59, 3) := sorry
theorem dX1_checkReady_4 : decode cX1_checkReady 4 = .ok (.getfield 121, 3) := sorry
theorem dX1_checkReady_7 : decode cX1_checkReady 7 = .ok (.invokestatic 117, 3) := sorry
theorem dX1_checkReady_10 : decode cX1_checkReady 10 = .ok (.return_, 1) := sorry
abbrev cX1_learn : ByteArray := prog_1_method_27_code
def yX1_learn : MethodName := ⟨RX1, "learn", "()I"⟩
def dkwX1_learn_1 : List UInt8 := [167, 0, 12, 76, 42, 180, 0, 59, 43, 182, 0, 219, 42, 180, 0, 59, 180, 0, 211, 172]
abbrev dktX1_learn_1 : List UInt8 := dkwX1_learn_1 ++ []
def dkwX1_learn_0 : List UInt8 := [42, 182, 0, 163, 42, 182, 0, 140, 42, 180, 0, 59, 3, 181, 0, 211, 42, 180, 0, 59, 182, 0, 214]
abbrev dktX1_learn_0 : List UInt8 := dkwX1_learn_0 ++ dktX1_learn_1
theorem dksX1_learn_0 : cX1_learn.data.toList.drop 0 = dktX1_learn_0 := sorry
theorem dksX1_learn_1 : cX1_learn.data.toList.drop 23 = dktX1_learn_1 := sorry
theorem dX1_learn_0 : decode cX1_learn 0 = .ok (.aload_n 0, 1) := sorry
theorem dX1_learn_1 : decode cX1_learn 1 = .ok (.invokevirtual 163, 3) := sorry
theorem dX1_learn_4 : decode cX1_learn 4 = .ok (.aload_n 0, 1) := sorry
theorem dX1_learn_5 : decode cX1_learn 5 = .ok (.invokevirtual 140, 3) := sorry
theorem dX1_learn_8 : decode cX1_learn 8 = .ok (.aload_n 0, 1) := sorry
theorem dX1_learn_9 : decode cX1_learn 9 = .ok (.getfield 59, 3) := sorry
theorem dX1_learn_12 : decode cX1_learn 12 = .ok (.iconst 0, 1) := sorry
theorem dX1_learn_13 : decode cX1_learn 13 = .ok (.putfield 211, 3) := sorry
theorem dX1_learn_16 : decode cX1_learn 16 = .ok (.aload_n 0, 1) := sorry
theorem dX1_learn_17 : decode cX1_learn 17 = .ok (.getfield 59, 3) := sorry
theorem dX1_learn_20 : decode cX1_learn 20 = .ok (.invokevirtual 214, 3) := sorry
theorem dX1_learn_23 : decode cX1_learn 23 = .ok (.goto 12, 3) := sorry
theorem dX1_learn_26 : decode cX1_learn 26 = .ok (.astore_n 1, 1) := sorry
theorem dX1_learn_27 : decode cX1_learn 27 = .ok (.aload_n 0, 1) := sorry
theorem dX1_learn_28 : decode cX1_learn 28 = .ok (.getfield 59, 3) := sorry
theorem dX1_learn_31 : decode cX1_learn 31 = .ok (.aload_n 1, 1) := sorry
theorem dX1_learn_32 : decode cX1_learn 32 = .ok (.invokevirtual 219, 3) := sorry
theorem dX1_learn_35 : decode cX1_learn 35 = .ok (.aload_n 0, 1) := sorry
theorem dX1_learn_36 : decode cX1_learn 36 = .ok (.getfield 59, 3) := sorry
theorem dX1_learn_39 : decode cX1_learn 39 = .ok (.getfield 211, 3) := sorry
theorem dX1_learn_42 : decode cX1_learn 42 = .ok (.ireturn, 1) := sorry
abbrev cX1_learned : ByteArray := prog_1_method_29_code
def yX1_learned : MethodName := ⟨RX1, "learned", "(I)I"⟩
def dkwX1_learned_3 : List UInt8 := [42, 180, 0, 59, 180, 0, 235, 153, 0, 7, 4, 167, 0, 4, 3, 172, 42, 180, 0, 59, 180, 0, 208, 172]
abbrev dktX1_learned_3 : List UInt8 := dkwX1_learned_3 ++ []
def dkwX1_learned_2 : List UInt8 := [42, 180, 0, 59, 180, 0, 226, 172, 42, 180, 0, 59, 180, 0, 229, 172, 42, 180, 0, 59, 180, 0, 232, 172]
abbrev dktX1_learned_2 : List UInt8 := dkwX1_learned_2 ++ dktX1_learned_3
def dkwX1_learned_1 : List UInt8 := [170, 0, 0, 0, 0, 70, 0, 0, 0, 0, 0, 0, 0, 3, 0, 0, 0, 30, 0, 0, 0, 38, 0, 0, 0, 46, 0, 0, 0, 54]
abbrev dktX1_learned_1 : List UInt8 := dkwX1_learned_1 ++ dktX1_learned_2
def dkwX1_learned_0 : List UInt8 := [42, 182, 0, 205, 27, 7, 184, 0, 223, 27]
abbrev dktX1_learned_0 : List UInt8 := dkwX1_learned_0 ++ dktX1_learned_1
theorem dksX1_learned_0 : cX1_learned.data.toList.drop 0 = dktX1_learned_0 := sorry
theorem dksX1_learned_1 : cX1_learned.data.toList.drop 10 = dktX1_learned_1 := sorry
theorem dksX1_learned_2 : cX1_learned.data.toList.drop 40 = dktX1_learned_2 := sorry
theorem dksX1_learned_3 : cX1_learned.data.toList.drop 64 = dktX1_learned_3 := sorry
theorem dX1_learned_0 : decode cX1_learned 0 = .ok (.aload_n 0, 1) := sorry
theorem dX1_learned_1 : decode cX1_learned 1 = .ok (.invokevirtual 205, 3) := sorry
theorem dX1_learned_4 : decode cX1_learned 4 = .ok (.iload_n 1, 1) := sorry
theorem dX1_learned_5 : decode cX1_learned 5 = .ok (.iconst 4, 1) := sorry
theorem dX1_learned_6 : decode cX1_learned 6 = .ok (.invokestatic 223, 3) := sorry
theorem dX1_learned_9 : decode cX1_learned 9 = .ok (.iload_n 1, 1) := sorry
theorem dX1_learned_10 : decode cX1_learned 10 = .ok (.tableswitch 70 0 3 #[30, 38, 46, 54], 30) := sorry
theorem dX1_learned_40 : decode cX1_learned 40 = .ok (.aload_n 0, 1) := sorry
theorem dX1_learned_41 : decode cX1_learned 41 = .ok (.getfield 59, 3) := sorry
theorem dX1_learned_44 : decode cX1_learned 44 = .ok (.getfield 226, 3) := sorry
theorem dX1_learned_47 : decode cX1_learned 47 = .ok (.ireturn, 1) := sorry
theorem dX1_learned_48 : decode cX1_learned 48 = .ok (.aload_n 0, 1) := sorry
theorem dX1_learned_49 : decode cX1_learned 49 = .ok (.getfield 59, 3) := sorry
theorem dX1_learned_52 : decode cX1_learned 52 = .ok (.getfield 229, 3) := sorry
theorem dX1_learned_55 : decode cX1_learned 55 = .ok (.ireturn, 1) := sorry
theorem dX1_learned_56 : decode cX1_learned 56 = .ok (.aload_n 0, 1) := sorry
theorem dX1_learned_57 : decode cX1_learned 57 = .ok (.getfield 59, 3) := sorry
theorem dX1_learned_60 : decode cX1_learned 60 = .ok (.getfield 232, 3) := sorry
theorem dX1_learned_63 : decode cX1_learned 63 = .ok (.ireturn, 1) := sorry
theorem dX1_learned_64 : decode cX1_learned 64 = .ok (.aload_n 0, 1) := sorry
theorem dX1_learned_65 : decode cX1_learned 65 = .ok (.getfield 59, 3) := sorry
theorem dX1_learned_68 : decode cX1_learned 68 = .ok (.getfield 235, 3) := sorry
theorem dX1_learned_71 : decode cX1_learned 71 = .ok (.ifCond .eq 7, 3) := sorry
theorem dX1_learned_74 : decode cX1_learned 74 = .ok (.iconst 1, 1) := sorry
theorem dX1_learned_75 : decode cX1_learned 75 = .ok (.goto 4, 3) := sorry
theorem dX1_learned_78 : decode cX1_learned 78 = .ok (.iconst 0, 1) := sorry
theorem dX1_learned_79 : decode cX1_learned 79 = .ok (.ireturn, 1) := sorry
theorem dX1_learned_80 : decode cX1_learned 80 = .ok (.aload_n 0, 1) := sorry
theorem dX1_learned_81 : decode cX1_learned 81 = .ok (.getfield 59, 3) := sorry
theorem dX1_learned_84 : decode cX1_learned 84 = .ok (.getfield 208, 3) := sorry
theorem dX1_learned_87 : decode cX1_learned 87 = .ok (.ireturn, 1) := sorry
abbrev cX1_checkElement : ByteArray := prog_1_method_5_code
def yX1_checkElement : MethodName := ⟨RX1, "checkElement", "(II)V"⟩
def dkwX1_checkElement_0 : List UInt8 := [26, 133, 9, 27, 133, 184, 0, 10, 154, 0, 11, 187, 0, 19, 89, 183, 0, 21, 191, 177]
abbrev dktX1_checkElement_0 : List UInt8 := dkwX1_checkElement_0 ++ []
theorem dksX1_checkElement_0 : cX1_checkElement.data.toList.drop 0 = dktX1_checkElement_0 := sorry
theorem dX1_checkElement_0 : decode cX1_checkElement 0 = .ok (.iload_n 0, 1) := sorry
theorem dX1_checkElement_1 : decode cX1_checkElement 1 = .ok (.i2l, 1) := sorry
theorem dX1_checkElement_2 : decode cX1_checkElement 2 = .ok (.lconst 0, 1) := sorry
theorem dX1_checkElement_3 : decode cX1_checkElement 3 = .ok (.iload_n 1, 1) := sorry
theorem dX1_checkElement_4 : decode cX1_checkElement 4 = .ok (.i2l, 1) := sorry
theorem dX1_checkElement_5 : decode cX1_checkElement 5 = .ok (.invokestatic 10, 3) := sorry
theorem dX1_checkElement_8 : decode cX1_checkElement 8 = .ok (.ifCond .ne 11, 3) := sorry
theorem dX1_checkElement_11 : decode cX1_checkElement 11 = .ok (.new 19, 3) := sorry
theorem dX1_checkElement_14 : decode cX1_checkElement 14 = .ok (.dup, 1) := sorry
theorem dX1_checkElement_15 : decode cX1_checkElement 15 = .ok (.invokespecial 21, 3) := sorry
theorem dX1_checkElement_18 : decode cX1_checkElement 18 = .ok (.athrow, 1) := sorry
theorem dX1_checkElement_19 : decode cX1_checkElement 19 = .ok (.return_, 1) := sorry
abbrev cX1_gapsSeen : ByteArray := prog_1_method_30_code
def yX1_gapsSeen : MethodName := ⟨RX1, "gapsSeen", "()I"⟩
def dkwX1_gapsSeen_2 : List UInt8 := [44, 185, 0, 254, 1, 0, 87, 132, 1, 1, 167, 255, 237, 27, 172]
abbrev dktX1_gapsSeen_2 : List UInt8 := dkwX1_gapsSeen_2 ++ []
def dkwX1_gapsSeen_1 : List UInt8 := [180, 0, 113, 182, 0, 160, 4, 96, 184, 0, 238, 182, 0, 244, 77, 44, 185, 0, 248, 1, 0, 153, 0, 16]
abbrev dktX1_gapsSeen_1 : List UInt8 := dkwX1_gapsSeen_1 ++ dktX1_gapsSeen_2
def dkwX1_gapsSeen_0 : List UInt8 := [42, 182, 0, 205, 3, 60, 42, 180, 0, 59, 3, 42, 180, 0, 59, 180, 0, 154, 42, 180, 0, 59]
abbrev dktX1_gapsSeen_0 : List UInt8 := dkwX1_gapsSeen_0 ++ dktX1_gapsSeen_1
theorem dksX1_gapsSeen_0 : cX1_gapsSeen.data.toList.drop 0 = dktX1_gapsSeen_0 := sorry
theorem dksX1_gapsSeen_1 : cX1_gapsSeen.data.toList.drop 22 = dktX1_gapsSeen_1 := sorry
theorem dksX1_gapsSeen_2 : cX1_gapsSeen.data.toList.drop 46 = dktX1_gapsSeen_2 := sorry
theorem dX1_gapsSeen_0 : decode cX1_gapsSeen 0 = .ok (.aload_n 0, 1) := sorry
theorem dX1_gapsSeen_1 : decode cX1_gapsSeen 1 = .ok (.invokevirtual 205, 3) := sorry
theorem dX1_gapsSeen_4 : decode cX1_gapsSeen 4 = .ok (.iconst 0, 1) := sorry
theorem dX1_gapsSeen_5 : decode cX1_gapsSeen 5 = .ok (.istore_n 1, 1) := sorry
theorem dX1_gapsSeen_6 : decode cX1_gapsSeen 6 = .ok (.aload_n 0, 1) := sorry
theorem dX1_gapsSeen_7 : decode cX1_gapsSeen 7 = .ok (.getfield 59, 3) := sorry
theorem dX1_gapsSeen_10 : decode cX1_gapsSeen 10 = .ok (.iconst 0, 1) := sorry
theorem dX1_gapsSeen_11 : decode cX1_gapsSeen 11 = .ok (.aload_n 0, 1) := sorry
theorem dX1_gapsSeen_12 : decode cX1_gapsSeen 12 = .ok (.getfield 59, 3) := sorry
theorem dX1_gapsSeen_15 : decode cX1_gapsSeen 15 = .ok (.getfield 154, 3) := sorry
theorem dX1_gapsSeen_18 : decode cX1_gapsSeen 18 = .ok (.aload_n 0, 1) := sorry
theorem dX1_gapsSeen_19 : decode cX1_gapsSeen 19 = .ok (.getfield 59, 3) := sorry
theorem dX1_gapsSeen_22 : decode cX1_gapsSeen 22 = .ok (.getfield 113, 3) := sorry
theorem dX1_gapsSeen_25 : decode cX1_gapsSeen 25 = .ok (.invokevirtual 160, 3) := sorry
theorem dX1_gapsSeen_28 : decode cX1_gapsSeen 28 = .ok (.iconst 1, 1) := sorry
theorem dX1_gapsSeen_29 : decode cX1_gapsSeen 29 = .ok (.iadd, 1) := sorry
theorem dX1_gapsSeen_30 : decode cX1_gapsSeen 30 = .ok (.invokestatic 238, 3) := sorry
theorem dX1_gapsSeen_33 : decode cX1_gapsSeen 33 = .ok (.invokevirtual 244, 3) := sorry
theorem dX1_gapsSeen_36 : decode cX1_gapsSeen 36 = .ok (.astore_n 2, 1) := sorry
theorem dX1_gapsSeen_37 : decode cX1_gapsSeen 37 = .ok (.aload_n 2, 1) := sorry
theorem dX1_gapsSeen_38 : decode cX1_gapsSeen 38 = .ok (.invokeinterface 248 1, 5) := sorry
theorem dX1_gapsSeen_43 : decode cX1_gapsSeen 43 = .ok (.ifCond .eq 16, 3) := sorry
theorem dX1_gapsSeen_46 : decode cX1_gapsSeen 46 = .ok (.aload_n 2, 1) := sorry
theorem dX1_gapsSeen_47 : decode cX1_gapsSeen 47 = .ok (.invokeinterface 254 1, 5) := sorry
theorem dX1_gapsSeen_52 : decode cX1_gapsSeen 52 = .ok (.pop, 1) := sorry
theorem dX1_gapsSeen_53 : decode cX1_gapsSeen 53 = .ok (.iinc 1 1, 3) := sorry
theorem dX1_gapsSeen_56 : decode cX1_gapsSeen 56 = .ok (.goto (-19), 3) := sorry
theorem dX1_gapsSeen_59 : decode cX1_gapsSeen 59 = .ok (.iload_n 1, 1) := sorry
theorem dX1_gapsSeen_60 : decode cX1_gapsSeen 60 = .ok (.ireturn, 1) := sorry
abbrev cX1_seenTo : ByteArray := prog_1_method_31_code
def yX1_seenTo : MethodName := ⟨RX1, "seenTo", "()I"⟩
def dkwX1_seenTo_0 : List UInt8 := [42, 182, 0, 163, 42, 180, 0, 59, 180, 0, 154, 172]
abbrev dktX1_seenTo_0 : List UInt8 := dkwX1_seenTo_0 ++ []
theorem dksX1_seenTo_0 : cX1_seenTo.data.toList.drop 0 = dktX1_seenTo_0 := sorry
theorem dX1_seenTo_0 : decode cX1_seenTo 0 = .ok (.aload_n 0, 1) := sorry
theorem dX1_seenTo_1 : decode cX1_seenTo 1 = .ok (.invokevirtual 163, 3) := sorry
theorem dX1_seenTo_4 : decode cX1_seenTo 4 = .ok (.aload_n 0, 1) := sorry
theorem dX1_seenTo_5 : decode cX1_seenTo 5 = .ok (.getfield 59, 3) := sorry
theorem dX1_seenTo_8 : decode cX1_seenTo 8 = .ok (.getfield 154, 3) := sorry
theorem dX1_seenTo_11 : decode cX1_seenTo 11 = .ok (.ireturn, 1) := sorry
abbrev cX1_backfeed : ByteArray := prog_1_method_32_code
def yX1_backfeed : MethodName := ⟨RX1, "backfeed", "()I"⟩
def dkwX1_backfeed_0 : List UInt8 := [42, 182, 0, 205, 3, 42, 180, 0, 59, 180, 0, 148, 42, 180, 0, 59, 180, 0, 208, 100, 184, 1, 1, 172]
abbrev dktX1_backfeed_0 : List UInt8 := dkwX1_backfeed_0 ++ []
theorem dksX1_backfeed_0 : cX1_backfeed.data.toList.drop 0 = dktX1_backfeed_0 := sorry
theorem dX1_backfeed_0 : decode cX1_backfeed 0 = .ok (.aload_n 0, 1) := sorry
theorem dX1_backfeed_1 : decode cX1_backfeed 1 = .ok (.invokevirtual 205, 3) := sorry
theorem dX1_backfeed_4 : decode cX1_backfeed 4 = .ok (.iconst 0, 1) := sorry
theorem dX1_backfeed_5 : decode cX1_backfeed 5 = .ok (.aload_n 0, 1) := sorry
theorem dX1_backfeed_6 : decode cX1_backfeed 6 = .ok (.getfield 59, 3) := sorry
theorem dX1_backfeed_9 : decode cX1_backfeed 9 = .ok (.getfield 148, 3) := sorry
theorem dX1_backfeed_12 : decode cX1_backfeed 12 = .ok (.aload_n 0, 1) := sorry
theorem dX1_backfeed_13 : decode cX1_backfeed 13 = .ok (.getfield 59, 3) := sorry
theorem dX1_backfeed_16 : decode cX1_backfeed 16 = .ok (.getfield 208, 3) := sorry
theorem dX1_backfeed_19 : decode cX1_backfeed 19 = .ok (.isub, 1) := sorry
theorem dX1_backfeed_20 : decode cX1_backfeed 20 = .ok (.invokestatic 257, 3) := sorry
theorem dX1_backfeed_23 : decode cX1_backfeed 23 = .ok (.ireturn, 1) := sorry
abbrev cX1_nextGap : ByteArray := prog_1_method_33_code
def yX1_nextGap : MethodName := ⟨RX1, "nextGap", "(I)I"⟩
def dkwX1_nextGap_2 : List UInt8 := [44, 185, 0, 254, 1, 0, 192, 1, 4, 182, 1, 6, 167, 0, 4, 2, 172]
abbrev dktX1_nextGap_2 : List UInt8 := dkwX1_nextGap_2 ++ []
def dkwX1_nextGap_1 : List UInt8 := [180, 0, 113, 182, 0, 160, 4, 96, 184, 0, 238, 182, 0, 244, 77, 44, 185, 0, 248, 1, 0, 153, 0, 18]
abbrev dktX1_nextGap_1 : List UInt8 := dkwX1_nextGap_1 ++ dktX1_nextGap_2
def dkwX1_nextGap_0 : List UInt8 := [42, 182, 0, 205, 42, 180, 0, 59, 3, 27, 184, 1, 1, 42, 180, 0, 59, 180, 0, 154, 42, 180, 0, 59]
abbrev dktX1_nextGap_0 : List UInt8 := dkwX1_nextGap_0 ++ dktX1_nextGap_1
theorem dksX1_nextGap_0 : cX1_nextGap.data.toList.drop 0 = dktX1_nextGap_0 := sorry
theorem dksX1_nextGap_1 : cX1_nextGap.data.toList.drop 24 = dktX1_nextGap_1 := sorry
theorem dksX1_nextGap_2 : cX1_nextGap.data.toList.drop 48 = dktX1_nextGap_2 := sorry
theorem dX1_nextGap_0 : decode cX1_nextGap 0 = .ok (.aload_n 0, 1) := sorry
theorem dX1_nextGap_1 : decode cX1_nextGap 1 = .ok (.invokevirtual 205, 3) := sorry
theorem dX1_nextGap_4 : decode cX1_nextGap 4 = .ok (.aload_n 0, 1) := sorry
theorem dX1_nextGap_5 : decode cX1_nextGap 5 = .ok (.getfield 59, 3) := sorry
theorem dX1_nextGap_8 : decode cX1_nextGap 8 = .ok (.iconst 0, 1) := sorry
theorem dX1_nextGap_9 : decode cX1_nextGap 9 = .ok (.iload_n 1, 1) := sorry
theorem dX1_nextGap_10 : decode cX1_nextGap 10 = .ok (.invokestatic 257, 3) := sorry
theorem dX1_nextGap_13 : decode cX1_nextGap 13 = .ok (.aload_n 0, 1) := sorry
theorem dX1_nextGap_14 : decode cX1_nextGap 14 = .ok (.getfield 59, 3) := sorry
theorem dX1_nextGap_17 : decode cX1_nextGap 17 = .ok (.getfield 154, 3) := sorry
theorem dX1_nextGap_20 : decode cX1_nextGap 20 = .ok (.aload_n 0, 1) := sorry
theorem dX1_nextGap_21 : decode cX1_nextGap 21 = .ok (.getfield 59, 3) := sorry
theorem dX1_nextGap_24 : decode cX1_nextGap 24 = .ok (.getfield 113, 3) := sorry
theorem dX1_nextGap_27 : decode cX1_nextGap 27 = .ok (.invokevirtual 160, 3) := sorry
theorem dX1_nextGap_30 : decode cX1_nextGap 30 = .ok (.iconst 1, 1) := sorry
theorem dX1_nextGap_31 : decode cX1_nextGap 31 = .ok (.iadd, 1) := sorry
theorem dX1_nextGap_32 : decode cX1_nextGap 32 = .ok (.invokestatic 238, 3) := sorry
theorem dX1_nextGap_35 : decode cX1_nextGap 35 = .ok (.invokevirtual 244, 3) := sorry
theorem dX1_nextGap_38 : decode cX1_nextGap 38 = .ok (.astore_n 2, 1) := sorry
theorem dX1_nextGap_39 : decode cX1_nextGap 39 = .ok (.aload_n 2, 1) := sorry
theorem dX1_nextGap_40 : decode cX1_nextGap 40 = .ok (.invokeinterface 248 1, 5) := sorry
theorem dX1_nextGap_45 : decode cX1_nextGap 45 = .ok (.ifCond .eq 18, 3) := sorry
theorem dX1_nextGap_48 : decode cX1_nextGap 48 = .ok (.aload_n 2, 1) := sorry
theorem dX1_nextGap_49 : decode cX1_nextGap 49 = .ok (.invokeinterface 254 1, 5) := sorry
theorem dX1_nextGap_54 : decode cX1_nextGap 54 = .ok (.checkcast 260, 3) := sorry
theorem dX1_nextGap_57 : decode cX1_nextGap 57 = .ok (.invokevirtual 262, 3) := sorry
theorem dX1_nextGap_60 : decode cX1_nextGap 60 = .ok (.goto 4, 3) := sorry
theorem dX1_nextGap_63 : decode cX1_nextGap 63 = .ok (.iconst (-1), 1) := sorry
theorem dX1_nextGap_64 : decode cX1_nextGap 64 = .ok (.ireturn, 1) := sorry
abbrev cX1_tearPlace : ByteArray := prog_1_method_35_code
def yX1_tearPlace : MethodName := ⟨RX1, "tearPlace", "()I"⟩
def dkwX1_tearPlace_0 : List UInt8 := [42, 182, 0, 205, 42, 180, 0, 59, 182, 1, 9, 172]
abbrev dktX1_tearPlace_0 : List UInt8 := dkwX1_tearPlace_0 ++ []
theorem dksX1_tearPlace_0 : cX1_tearPlace.data.toList.drop 0 = dktX1_tearPlace_0 := sorry
theorem dX1_tearPlace_0 : decode cX1_tearPlace 0 = .ok (.aload_n 0, 1) := sorry
theorem dX1_tearPlace_1 : decode cX1_tearPlace 1 = .ok (.invokevirtual 205, 3) := sorry
theorem dX1_tearPlace_4 : decode cX1_tearPlace 4 = .ok (.aload_n 0, 1) := sorry
theorem dX1_tearPlace_5 : decode cX1_tearPlace 5 = .ok (.getfield 59, 3) := sorry
theorem dX1_tearPlace_8 : decode cX1_tearPlace 8 = .ok (.invokevirtual 265, 3) := sorry
theorem dX1_tearPlace_11 : decode cX1_tearPlace 11 = .ok (.ireturn, 1) := sorry
abbrev cX1_batchField : ByteArray := prog_1_method_38_code
def yX1_batchField : MethodName := ⟨RX1, "batchField", "(II)I"⟩
def dkwX1_batchField_3 : List UInt8 := [153, 0, 7, 4, 167, 0, 4, 3, 172, 45, 180, 1, 37, 153, 0, 7, 4, 167, 0, 4, 3, 172]
abbrev dktX1_batchField_3 : List UInt8 := dkwX1_batchField_3 ++ []
def dkwX1_batchField_2 : List UInt8 := [45, 180, 1, 25, 172, 45, 180, 1, 22, 172, 45, 180, 1, 28, 172, 45, 180, 1, 31, 172, 45, 180, 1, 34]
abbrev dktX1_batchField_2 : List UInt8 := dkwX1_batchField_2 ++ dktX1_batchField_3
def dkwX1_batchField_1 : List UInt8 := [170, 0, 0, 0, 0, 0, 0, 69, 0, 0, 0, 0, 0, 0, 0, 4, 0, 0, 0, 36, 0, 0, 0, 41, 0, 0, 0, 46, 0, 0, 0, 51, 0, 0, 0, 56]
abbrev dktX1_batchField_1 : List UInt8 := dkwX1_batchField_1 ++ dktX1_batchField_2
def dkwX1_batchField_0 : List UInt8 := [42, 27, 182, 1, 18, 78, 28, 8, 184, 0, 223, 28]
abbrev dktX1_batchField_0 : List UInt8 := dkwX1_batchField_0 ++ dktX1_batchField_1
theorem dksX1_batchField_0 : cX1_batchField.data.toList.drop 0 = dktX1_batchField_0 := sorry
theorem dksX1_batchField_1 : cX1_batchField.data.toList.drop 12 = dktX1_batchField_1 := sorry
theorem dksX1_batchField_2 : cX1_batchField.data.toList.drop 48 = dktX1_batchField_2 := sorry
theorem dksX1_batchField_3 : cX1_batchField.data.toList.drop 72 = dktX1_batchField_3 := sorry
theorem dX1_batchField_0 : decode cX1_batchField 0 = .ok (.aload_n 0, 1) := sorry
theorem dX1_batchField_1 : decode cX1_batchField 1 = .ok (.iload_n 1, 1) := sorry
theorem dX1_batchField_2 : decode cX1_batchField 2 = .ok (.invokevirtual 274, 3) := sorry
theorem dX1_batchField_5 : decode cX1_batchField 5 = .ok (.astore_n 3, 1) := sorry
theorem dX1_batchField_6 : decode cX1_batchField 6 = .ok (.iload_n 2, 1) := sorry
theorem dX1_batchField_7 : decode cX1_batchField 7 = .ok (.iconst 5, 1) := sorry
theorem dX1_batchField_8 : decode cX1_batchField 8 = .ok (.invokestatic 223, 3) := sorry
theorem dX1_batchField_11 : decode cX1_batchField 11 = .ok (.iload_n 2, 1) := sorry
theorem dX1_batchField_12 : decode cX1_batchField 12 = .ok (.tableswitch 69 0 4 #[36, 41, 46, 51, 56], 36) := sorry
theorem dX1_batchField_48 : decode cX1_batchField 48 = .ok (.aload_n 3, 1) := sorry
theorem dX1_batchField_49 : decode cX1_batchField 49 = .ok (.getfield 281, 3) := sorry
theorem dX1_batchField_52 : decode cX1_batchField 52 = .ok (.ireturn, 1) := sorry
theorem dX1_batchField_53 : decode cX1_batchField 53 = .ok (.aload_n 3, 1) := sorry
theorem dX1_batchField_54 : decode cX1_batchField 54 = .ok (.getfield 278, 3) := sorry
theorem dX1_batchField_57 : decode cX1_batchField 57 = .ok (.ireturn, 1) := sorry
theorem dX1_batchField_58 : decode cX1_batchField 58 = .ok (.aload_n 3, 1) := sorry
theorem dX1_batchField_59 : decode cX1_batchField 59 = .ok (.getfield 284, 3) := sorry
theorem dX1_batchField_62 : decode cX1_batchField 62 = .ok (.ireturn, 1) := sorry
theorem dX1_batchField_63 : decode cX1_batchField 63 = .ok (.aload_n 3, 1) := sorry
theorem dX1_batchField_64 : decode cX1_batchField 64 = .ok (.getfield 287, 3) := sorry
theorem dX1_batchField_67 : decode cX1_batchField 67 = .ok (.ireturn, 1) := sorry
theorem dX1_batchField_68 : decode cX1_batchField 68 = .ok (.aload_n 3, 1) := sorry
theorem dX1_batchField_69 : decode cX1_batchField 69 = .ok (.getfield 290, 3) := sorry
theorem dX1_batchField_72 : decode cX1_batchField 72 = .ok (.ifCond .eq 7, 3) := sorry
theorem dX1_batchField_75 : decode cX1_batchField 75 = .ok (.iconst 1, 1) := sorry
theorem dX1_batchField_76 : decode cX1_batchField 76 = .ok (.goto 4, 3) := sorry
theorem dX1_batchField_79 : decode cX1_batchField 79 = .ok (.iconst 0, 1) := sorry
theorem dX1_batchField_80 : decode cX1_batchField 80 = .ok (.ireturn, 1) := sorry
theorem dX1_batchField_81 : decode cX1_batchField 81 = .ok (.aload_n 3, 1) := sorry
theorem dX1_batchField_82 : decode cX1_batchField 82 = .ok (.getfield 293, 3) := sorry
theorem dX1_batchField_85 : decode cX1_batchField 85 = .ok (.ifCond .eq 7, 3) := sorry
theorem dX1_batchField_88 : decode cX1_batchField 88 = .ok (.iconst 1, 1) := sorry
theorem dX1_batchField_89 : decode cX1_batchField 89 = .ok (.goto 4, 3) := sorry
theorem dX1_batchField_92 : decode cX1_batchField 92 = .ok (.iconst 0, 1) := sorry
theorem dX1_batchField_93 : decode cX1_batchField 93 = .ok (.ireturn, 1) := sorry
abbrev cX1_number : ByteArray := prog_1_method_39_code
def yX1_number : MethodName := ⟨RX1, "number", "(II)I"⟩
def dkwX1_number_0 : List UInt8 := [42, 27, 28, 182, 1, 40, 87, 42, 27, 182, 1, 18, 28, 182, 1, 43, 172]
abbrev dktX1_number_0 : List UInt8 := dkwX1_number_0 ++ []
theorem dksX1_number_0 : cX1_number.data.toList.drop 0 = dktX1_number_0 := sorry
theorem dX1_number_0 : decode cX1_number 0 = .ok (.aload_n 0, 1) := sorry
theorem dX1_number_1 : decode cX1_number 1 = .ok (.iload_n 1, 1) := sorry
theorem dX1_number_2 : decode cX1_number 2 = .ok (.iload_n 2, 1) := sorry
theorem dX1_number_3 : decode cX1_number 3 = .ok (.invokevirtual 296, 3) := sorry
theorem dX1_number_6 : decode cX1_number 6 = .ok (.pop, 1) := sorry
theorem dX1_number_7 : decode cX1_number 7 = .ok (.aload_n 0, 1) := sorry
theorem dX1_number_8 : decode cX1_number 8 = .ok (.iload_n 1, 1) := sorry
theorem dX1_number_9 : decode cX1_number 9 = .ok (.invokevirtual 274, 3) := sorry
theorem dX1_number_12 : decode cX1_number 12 = .ok (.iload_n 2, 1) := sorry
theorem dX1_number_13 : decode cX1_number 13 = .ok (.invokevirtual 299, 3) := sorry
theorem dX1_number_16 : decode cX1_number 16 = .ok (.ireturn, 1) := sorry
abbrev cX1_placeAt : ByteArray := prog_1_method_37_code
def yX1_placeAt : MethodName := ⟨RX1, "placeAt", "(II)I"⟩
def dkwX1_placeAt_0 : List UInt8 := [28, 42, 27, 182, 1, 18, 180, 1, 22, 184, 0, 169, 16, 40, 27, 104, 28, 96, 172]
abbrev dktX1_placeAt_0 : List UInt8 := dkwX1_placeAt_0 ++ []
theorem dksX1_placeAt_0 : cX1_placeAt.data.toList.drop 0 = dktX1_placeAt_0 := sorry
theorem dX1_placeAt_0 : decode cX1_placeAt 0 = .ok (.iload_n 2, 1) := sorry
theorem dX1_placeAt_1 : decode cX1_placeAt 1 = .ok (.aload_n 0, 1) := sorry
theorem dX1_placeAt_2 : decode cX1_placeAt 2 = .ok (.iload_n 1, 1) := sorry
theorem dX1_placeAt_3 : decode cX1_placeAt 3 = .ok (.invokevirtual 274, 3) := sorry
theorem dX1_placeAt_6 : decode cX1_placeAt 6 = .ok (.getfield 278, 3) := sorry
theorem dX1_placeAt_9 : decode cX1_placeAt 9 = .ok (.invokestatic 169, 3) := sorry
theorem dX1_placeAt_12 : decode cX1_placeAt 12 = .ok (.bipush 40, 2) := sorry
theorem dX1_placeAt_14 : decode cX1_placeAt 14 = .ok (.iload_n 1, 1) := sorry
theorem dX1_placeAt_15 : decode cX1_placeAt 15 = .ok (.imul, 1) := sorry
theorem dX1_placeAt_16 : decode cX1_placeAt 16 = .ok (.iload_n 2, 1) := sorry
theorem dX1_placeAt_17 : decode cX1_placeAt 17 = .ok (.iadd, 1) := sorry
theorem dX1_placeAt_18 : decode cX1_placeAt 18 = .ok (.ireturn, 1) := sorry
abbrev cX1_checkDigit : ByteArray := prog_1_method_40_code
def yX1_checkDigit : MethodName := ⟨RX1, "checkDigit", "(II)I"⟩
def dkwX1_checkDigit_0 : List UInt8 := [42, 27, 28, 182, 1, 40, 87, 42, 27, 182, 1, 18, 28, 182, 1, 46, 172]
abbrev dktX1_checkDigit_0 : List UInt8 := dkwX1_checkDigit_0 ++ []
theorem dksX1_checkDigit_0 : cX1_checkDigit.data.toList.drop 0 = dktX1_checkDigit_0 := sorry
theorem dX1_checkDigit_0 : decode cX1_checkDigit 0 = .ok (.aload_n 0, 1) := sorry
theorem dX1_checkDigit_1 : decode cX1_checkDigit 1 = .ok (.iload_n 1, 1) := sorry
theorem dX1_checkDigit_2 : decode cX1_checkDigit 2 = .ok (.iload_n 2, 1) := sorry
theorem dX1_checkDigit_3 : decode cX1_checkDigit 3 = .ok (.invokevirtual 296, 3) := sorry
theorem dX1_checkDigit_6 : decode cX1_checkDigit 6 = .ok (.pop, 1) := sorry
theorem dX1_checkDigit_7 : decode cX1_checkDigit 7 = .ok (.aload_n 0, 1) := sorry
theorem dX1_checkDigit_8 : decode cX1_checkDigit 8 = .ok (.iload_n 1, 1) := sorry
theorem dX1_checkDigit_9 : decode cX1_checkDigit 9 = .ok (.invokevirtual 274, 3) := sorry
theorem dX1_checkDigit_12 : decode cX1_checkDigit 12 = .ok (.iload_n 2, 1) := sorry
theorem dX1_checkDigit_13 : decode cX1_checkDigit 13 = .ok (.invokevirtual 302, 3) := sorry
theorem dX1_checkDigit_16 : decode cX1_checkDigit 16 = .ok (.ireturn, 1) := sorry
abbrev cX1_stateOf : ByteArray := prog_1_method_41_code
def yX1_stateOf : MethodName := ⟨RX1, "stateOf", "(II)I"⟩
def dkwX1_stateOf_0 : List UInt8 := [42, 180, 0, 59, 180, 1, 49, 42, 27, 28, 182, 1, 40, 46, 172]
abbrev dktX1_stateOf_0 : List UInt8 := dkwX1_stateOf_0 ++ []
theorem dksX1_stateOf_0 : cX1_stateOf.data.toList.drop 0 = dktX1_stateOf_0 := sorry
theorem dX1_stateOf_0 : decode cX1_stateOf 0 = .ok (.aload_n 0, 1) := sorry
theorem dX1_stateOf_1 : decode cX1_stateOf 1 = .ok (.getfield 59, 3) := sorry
theorem dX1_stateOf_4 : decode cX1_stateOf 4 = .ok (.getfield 305, 3) := sorry
theorem dX1_stateOf_7 : decode cX1_stateOf 7 = .ok (.aload_n 0, 1) := sorry
theorem dX1_stateOf_8 : decode cX1_stateOf 8 = .ok (.iload_n 1, 1) := sorry
theorem dX1_stateOf_9 : decode cX1_stateOf 9 = .ok (.iload_n 2, 1) := sorry
theorem dX1_stateOf_10 : decode cX1_stateOf 10 = .ok (.invokevirtual 296, 3) := sorry
theorem dX1_stateOf_13 : decode cX1_stateOf 13 = .ok (.iaload, 1) := sorry
theorem dX1_stateOf_14 : decode cX1_stateOf 14 = .ok (.ireturn, 1) := sorry
abbrev cX1_attempts : ByteArray := prog_1_method_42_code
def yX1_attempts : MethodName := ⟨RX1, "attempts", "(II)I"⟩
def dkwX1_attempts_0 : List UInt8 := [42, 180, 0, 59, 180, 1, 51, 42, 27, 28, 182, 1, 40, 46, 172]
abbrev dktX1_attempts_0 : List UInt8 := dkwX1_attempts_0 ++ []
theorem dksX1_attempts_0 : cX1_attempts.data.toList.drop 0 = dktX1_attempts_0 := sorry
theorem dX1_attempts_0 : decode cX1_attempts 0 = .ok (.aload_n 0, 1) := sorry
theorem dX1_attempts_1 : decode cX1_attempts 1 = .ok (.getfield 59, 3) := sorry
theorem dX1_attempts_4 : decode cX1_attempts 4 = .ok (.getfield 307, 3) := sorry
theorem dX1_attempts_7 : decode cX1_attempts 7 = .ok (.aload_n 0, 1) := sorry
theorem dX1_attempts_8 : decode cX1_attempts 8 = .ok (.iload_n 1, 1) := sorry
theorem dX1_attempts_9 : decode cX1_attempts 9 = .ok (.iload_n 2, 1) := sorry
theorem dX1_attempts_10 : decode cX1_attempts 10 = .ok (.invokevirtual 296, 3) := sorry
theorem dX1_attempts_13 : decode cX1_attempts 13 = .ok (.iaload, 1) := sorry
theorem dX1_attempts_14 : decode cX1_attempts 14 = .ok (.ireturn, 1) := sorry
abbrev cX1_countOf : ByteArray := prog_1_method_44_code
def yX1_countOf : MethodName := ⟨RX1, "countOf", "(II)I"⟩
def dkwX1_countOf_1 : List UInt8 := [172]
abbrev dktX1_countOf_1 : List UInt8 := dkwX1_countOf_1 ++ []
def dkwX1_countOf_0 : List UInt8 := [42, 27, 182, 1, 18, 87, 28, 133, 9, 20, 0, 131, 184, 0, 10, 184, 0, 137, 42, 27, 28, 182, 1, 54]
abbrev dktX1_countOf_0 : List UInt8 := dkwX1_countOf_0 ++ dktX1_countOf_1
theorem dksX1_countOf_0 : cX1_countOf.data.toList.drop 0 = dktX1_countOf_0 := sorry
theorem dksX1_countOf_1 : cX1_countOf.data.toList.drop 24 = dktX1_countOf_1 := sorry
theorem dX1_countOf_0 : decode cX1_countOf 0 = .ok (.aload_n 0, 1) := sorry
theorem dX1_countOf_1 : decode cX1_countOf 1 = .ok (.iload_n 1, 1) := sorry
theorem dX1_countOf_2 : decode cX1_countOf 2 = .ok (.invokevirtual 274, 3) := sorry
theorem dX1_countOf_5 : decode cX1_countOf 5 = .ok (.pop, 1) := sorry
theorem dX1_countOf_6 : decode cX1_countOf 6 = .ok (.iload_n 2, 1) := sorry
theorem dX1_countOf_7 : decode cX1_countOf 7 = .ok (.i2l, 1) := sorry
theorem dX1_countOf_8 : decode cX1_countOf 8 = .ok (.lconst 0, 1) := sorry
theorem dX1_countOf_9 : decode cX1_countOf 9 = .ok (.ldc2_w 131, 3) := sorry
theorem dX1_countOf_12 : decode cX1_countOf 12 = .ok (.invokestatic 10, 3) := sorry
theorem dX1_countOf_15 : decode cX1_countOf 15 = .ok (.invokestatic 137, 3) := sorry
theorem dX1_countOf_18 : decode cX1_countOf 18 = .ok (.aload_n 0, 1) := sorry
theorem dX1_countOf_19 : decode cX1_countOf 19 = .ok (.iload_n 1, 1) := sorry
theorem dX1_countOf_20 : decode cX1_countOf 20 = .ok (.iload_n 2, 1) := sorry
theorem dX1_countOf_21 : decode cX1_countOf 21 = .ok (.invokevirtual 310, 3) := sorry
theorem dX1_countOf_24 : decode cX1_countOf 24 = .ok (.ireturn, 1) := sorry
abbrev cX1_printedAs : ByteArray := prog_1_method_49_code
def yX1_printedAs : MethodName := ⟨RX1, "printedAs", "(I)I"⟩
def dkwX1_printedAs_2 : List UInt8 := [159, 0, 16, 187, 1, 64, 89, 28, 29, 183, 1, 79, 182, 1, 66, 172, 132, 2, 1, 167, 255, 213, 2, 172]
abbrev dktX1_printedAs_2 : List UInt8 := dkwX1_printedAs_2 ++ []
def dkwX1_printedAs_1 : List UInt8 := [180, 0, 43, 180, 0, 91, 182, 0, 95, 162, 0, 35, 42, 28, 27, 4, 182, 1, 75, 62, 29, 2]
abbrev dktX1_printedAs_1 : List UInt8 := dkwX1_printedAs_1 ++ dktX1_printedAs_2
def dkwX1_printedAs_0 : List UInt8 := [27, 133, 9, 178, 1, 72, 16, 6, 46, 4, 100, 133, 184, 0, 10, 184, 0, 137, 3, 61, 28, 42]
abbrev dktX1_printedAs_0 : List UInt8 := dkwX1_printedAs_0 ++ dktX1_printedAs_1
theorem dksX1_printedAs_0 : cX1_printedAs.data.toList.drop 0 = dktX1_printedAs_0 := sorry
theorem dksX1_printedAs_1 : cX1_printedAs.data.toList.drop 22 = dktX1_printedAs_1 := sorry
theorem dksX1_printedAs_2 : cX1_printedAs.data.toList.drop 44 = dktX1_printedAs_2 := sorry
theorem dX1_printedAs_0 : decode cX1_printedAs 0 = .ok (.iload_n 1, 1) := sorry
theorem dX1_printedAs_1 : decode cX1_printedAs 1 = .ok (.i2l, 1) := sorry
theorem dX1_printedAs_2 : decode cX1_printedAs 2 = .ok (.lconst 0, 1) := sorry
theorem dX1_printedAs_3 : decode cX1_printedAs 3 = .ok (.getstatic 328, 3) := sorry
theorem dX1_printedAs_6 : decode cX1_printedAs 6 = .ok (.bipush 6, 2) := sorry
theorem dX1_printedAs_8 : decode cX1_printedAs 8 = .ok (.iaload, 1) := sorry
theorem dX1_printedAs_9 : decode cX1_printedAs 9 = .ok (.iconst 1, 1) := sorry
theorem dX1_printedAs_10 : decode cX1_printedAs 10 = .ok (.isub, 1) := sorry
theorem dX1_printedAs_11 : decode cX1_printedAs 11 = .ok (.i2l, 1) := sorry
theorem dX1_printedAs_12 : decode cX1_printedAs 12 = .ok (.invokestatic 10, 3) := sorry
theorem dX1_printedAs_15 : decode cX1_printedAs 15 = .ok (.invokestatic 137, 3) := sorry
theorem dX1_printedAs_18 : decode cX1_printedAs 18 = .ok (.iconst 0, 1) := sorry
theorem dX1_printedAs_19 : decode cX1_printedAs 19 = .ok (.istore_n 2, 1) := sorry
theorem dX1_printedAs_20 : decode cX1_printedAs 20 = .ok (.iload_n 2, 1) := sorry
theorem dX1_printedAs_21 : decode cX1_printedAs 21 = .ok (.aload_n 0, 1) := sorry
theorem dX1_printedAs_22 : decode cX1_printedAs 22 = .ok (.getfield 43, 3) := sorry
theorem dX1_printedAs_25 : decode cX1_printedAs 25 = .ok (.getfield 91, 3) := sorry
theorem dX1_printedAs_28 : decode cX1_printedAs 28 = .ok (.invokevirtual 95, 3) := sorry
theorem dX1_printedAs_31 : decode cX1_printedAs 31 = .ok (.if_icmp .ge 35, 3) := sorry
theorem dX1_printedAs_34 : decode cX1_printedAs 34 = .ok (.aload_n 0, 1) := sorry
theorem dX1_printedAs_35 : decode cX1_printedAs 35 = .ok (.iload_n 2, 1) := sorry
theorem dX1_printedAs_36 : decode cX1_printedAs 36 = .ok (.iload_n 1, 1) := sorry
theorem dX1_printedAs_37 : decode cX1_printedAs 37 = .ok (.iconst 1, 1) := sorry
theorem dX1_printedAs_38 : decode cX1_printedAs 38 = .ok (.invokevirtual 331, 3) := sorry
theorem dX1_printedAs_41 : decode cX1_printedAs 41 = .ok (.istore_n 3, 1) := sorry
theorem dX1_printedAs_42 : decode cX1_printedAs 42 = .ok (.iload_n 3, 1) := sorry
theorem dX1_printedAs_43 : decode cX1_printedAs 43 = .ok (.iconst (-1), 1) := sorry
theorem dX1_printedAs_44 : decode cX1_printedAs 44 = .ok (.if_icmp .eq 16, 3) := sorry
theorem dX1_printedAs_47 : decode cX1_printedAs 47 = .ok (.new 320, 3) := sorry
theorem dX1_printedAs_50 : decode cX1_printedAs 50 = .ok (.dup, 1) := sorry
theorem dX1_printedAs_51 : decode cX1_printedAs 51 = .ok (.iload_n 2, 1) := sorry
theorem dX1_printedAs_52 : decode cX1_printedAs 52 = .ok (.iload_n 3, 1) := sorry
theorem dX1_printedAs_53 : decode cX1_printedAs 53 = .ok (.invokespecial 335, 3) := sorry
theorem dX1_printedAs_56 : decode cX1_printedAs 56 = .ok (.invokevirtual 322, 3) := sorry
theorem dX1_printedAs_59 : decode cX1_printedAs 59 = .ok (.ireturn, 1) := sorry
theorem dX1_printedAs_60 : decode cX1_printedAs 60 = .ok (.iinc 2 1, 3) := sorry
theorem dX1_printedAs_63 : decode cX1_printedAs 63 = .ok (.goto (-43), 3) := sorry
theorem dX1_printedAs_66 : decode cX1_printedAs 66 = .ok (.iconst (-1), 1) := sorry
theorem dX1_printedAs_67 : decode cX1_printedAs 67 = .ok (.ireturn, 1) := sorry
abbrev cX1_serialWith : ByteArray := prog_1_method_50_code
def yX1_serialWith : MethodName := ⟨RX1, "serialWith", "(IIZ)I"⟩
def dkwX1_serialWith_3 : List UInt8 := [167, 255, 206, 2, 172]
abbrev dktX1_serialWith_3 : List UInt8 := dkwX1_serialWith_3 ++ []
def dkwX1_serialWith_2 : List UInt8 := [180, 0, 59, 180, 1, 49, 16, 40, 27, 104, 21, 5, 96, 46, 4, 160, 0, 6, 21, 5, 172, 132, 5, 1]
abbrev dktX1_serialWith_2 : List UInt8 := dkwX1_serialWith_2 ++ dktX1_serialWith_3
def dkwX1_serialWith_1 : List UInt8 := [180, 1, 22, 162, 0, 46, 25, 4, 21, 5, 182, 1, 43, 28, 160, 0, 29, 29, 153, 0, 22, 42]
abbrev dktX1_serialWith_1 : List UInt8 := dkwX1_serialWith_1 ++ dktX1_serialWith_2
def dkwX1_serialWith_0 : List UInt8 := [42, 180, 0, 43, 180, 0, 91, 27, 182, 1, 12, 192, 1, 16, 58, 4, 3, 54, 5, 21, 5, 25, 4]
abbrev dktX1_serialWith_0 : List UInt8 := dkwX1_serialWith_0 ++ dktX1_serialWith_1
theorem dksX1_serialWith_0 : cX1_serialWith.data.toList.drop 0 = dktX1_serialWith_0 := sorry
theorem dksX1_serialWith_1 : cX1_serialWith.data.toList.drop 23 = dktX1_serialWith_1 := sorry
theorem dksX1_serialWith_2 : cX1_serialWith.data.toList.drop 45 = dktX1_serialWith_2 := sorry
theorem dksX1_serialWith_3 : cX1_serialWith.data.toList.drop 69 = dktX1_serialWith_3 := sorry
theorem dX1_serialWith_0 : decode cX1_serialWith 0 = .ok (.aload_n 0, 1) := sorry
theorem dX1_serialWith_1 : decode cX1_serialWith 1 = .ok (.getfield 43, 3) := sorry
theorem dX1_serialWith_4 : decode cX1_serialWith 4 = .ok (.getfield 91, 3) := sorry
theorem dX1_serialWith_7 : decode cX1_serialWith 7 = .ok (.iload_n 1, 1) := sorry
theorem dX1_serialWith_8 : decode cX1_serialWith 8 = .ok (.invokevirtual 268, 3) := sorry
theorem dX1_serialWith_11 : decode cX1_serialWith 11 = .ok (.checkcast 272, 3) := sorry
theorem dX1_serialWith_14 : decode cX1_serialWith 14 = .ok (.astore 4, 2) := sorry
theorem dX1_serialWith_16 : decode cX1_serialWith 16 = .ok (.iconst 0, 1) := sorry
theorem dX1_serialWith_17 : decode cX1_serialWith 17 = .ok (.istore 5, 2) := sorry
theorem dX1_serialWith_19 : decode cX1_serialWith 19 = .ok (.iload 5, 2) := sorry
theorem dX1_serialWith_21 : decode cX1_serialWith 21 = .ok (.aload 4, 2) := sorry
theorem dX1_serialWith_23 : decode cX1_serialWith 23 = .ok (.getfield 278, 3) := sorry
theorem dX1_serialWith_26 : decode cX1_serialWith 26 = .ok (.if_icmp .ge 46, 3) := sorry
theorem dX1_serialWith_29 : decode cX1_serialWith 29 = .ok (.aload 4, 2) := sorry
theorem dX1_serialWith_31 : decode cX1_serialWith 31 = .ok (.iload 5, 2) := sorry
theorem dX1_serialWith_33 : decode cX1_serialWith 33 = .ok (.invokevirtual 299, 3) := sorry
theorem dX1_serialWith_36 : decode cX1_serialWith 36 = .ok (.iload_n 2, 1) := sorry
theorem dX1_serialWith_37 : decode cX1_serialWith 37 = .ok (.if_icmp .ne 29, 3) := sorry
theorem dX1_serialWith_40 : decode cX1_serialWith 40 = .ok (.iload_n 3, 1) := sorry
theorem dX1_serialWith_41 : decode cX1_serialWith 41 = .ok (.ifCond .eq 22, 3) := sorry
theorem dX1_serialWith_44 : decode cX1_serialWith 44 = .ok (.aload_n 0, 1) := sorry
theorem dX1_serialWith_45 : decode cX1_serialWith 45 = .ok (.getfield 59, 3) := sorry
theorem dX1_serialWith_48 : decode cX1_serialWith 48 = .ok (.getfield 305, 3) := sorry
theorem dX1_serialWith_51 : decode cX1_serialWith 51 = .ok (.bipush 40, 2) := sorry
theorem dX1_serialWith_53 : decode cX1_serialWith 53 = .ok (.iload_n 1, 1) := sorry
theorem dX1_serialWith_54 : decode cX1_serialWith 54 = .ok (.imul, 1) := sorry
theorem dX1_serialWith_55 : decode cX1_serialWith 55 = .ok (.iload 5, 2) := sorry
theorem dX1_serialWith_57 : decode cX1_serialWith 57 = .ok (.iadd, 1) := sorry
theorem dX1_serialWith_58 : decode cX1_serialWith 58 = .ok (.iaload, 1) := sorry
theorem dX1_serialWith_59 : decode cX1_serialWith 59 = .ok (.iconst 1, 1) := sorry
theorem dX1_serialWith_60 : decode cX1_serialWith 60 = .ok (.if_icmp .ne 6, 3) := sorry
theorem dX1_serialWith_63 : decode cX1_serialWith 63 = .ok (.iload 5, 2) := sorry
theorem dX1_serialWith_65 : decode cX1_serialWith 65 = .ok (.ireturn, 1) := sorry
theorem dX1_serialWith_66 : decode cX1_serialWith 66 = .ok (.iinc 5 1, 3) := sorry
theorem dX1_serialWith_69 : decode cX1_serialWith 69 = .ok (.goto (-50), 3) := sorry
theorem dX1_serialWith_72 : decode cX1_serialWith 72 = .ok (.iconst (-1), 1) := sorry
theorem dX1_serialWith_73 : decode cX1_serialWith 73 = .ok (.ireturn, 1) := sorry
abbrev cX1_verify : ByteArray := prog_1_method_51_code
def yX1_verify : MethodName := ⟨RX1, "verify", "(III)I"⟩
def dkwX1_verify_2 : List UInt8 := [4, 182, 1, 75, 2, 160, 0, 7, 6, 167, 0, 4, 3, 172]
abbrev dktX1_verify_2 : List UInt8 := dkwX1_verify_2 ++ []
def dkwX1_verify_1 : List UInt8 := [25, 4, 180, 1, 34, 153, 0, 16, 25, 4, 21, 5, 182, 1, 46, 29, 159, 0, 5, 5, 172, 42, 27, 28]
abbrev dktX1_verify_1 : List UInt8 := dkwX1_verify_1 ++ dktX1_verify_2
def dkwX1_verify_0 : List UInt8 := [42, 27, 182, 1, 18, 58, 4, 42, 27, 28, 3, 182, 1, 75, 54, 5, 21, 5, 2, 160, 0, 5, 4, 172]
abbrev dktX1_verify_0 : List UInt8 := dkwX1_verify_0 ++ dktX1_verify_1
theorem dksX1_verify_0 : cX1_verify.data.toList.drop 0 = dktX1_verify_0 := sorry
theorem dksX1_verify_1 : cX1_verify.data.toList.drop 24 = dktX1_verify_1 := sorry
theorem dksX1_verify_2 : cX1_verify.data.toList.drop 48 = dktX1_verify_2 := sorry
theorem dX1_verify_0 : decode cX1_verify 0 = .ok (.aload_n 0, 1) := sorry
theorem dX1_verify_1 : decode cX1_verify 1 = .ok (.iload_n 1, 1) := sorry
theorem dX1_verify_2 : decode cX1_verify 2 = .ok (.invokevirtual 274, 3) := sorry
theorem dX1_verify_5 : decode cX1_verify 5 = .ok (.astore 4, 2) := sorry
theorem dX1_verify_7 : decode cX1_verify 7 = .ok (.aload_n 0, 1) := sorry
theorem dX1_verify_8 : decode cX1_verify 8 = .ok (.iload_n 1, 1) := sorry
theorem dX1_verify_9 : decode cX1_verify 9 = .ok (.iload_n 2, 1) := sorry
theorem dX1_verify_10 : decode cX1_verify 10 = .ok (.iconst 0, 1) := sorry
theorem dX1_verify_11 : decode cX1_verify 11 = .ok (.invokevirtual 331, 3) := sorry
theorem dX1_verify_14 : decode cX1_verify 14 = .ok (.istore 5, 2) := sorry
theorem dX1_verify_16 : decode cX1_verify 16 = .ok (.iload 5, 2) := sorry
theorem dX1_verify_18 : decode cX1_verify 18 = .ok (.iconst (-1), 1) := sorry
theorem dX1_verify_19 : decode cX1_verify 19 = .ok (.if_icmp .ne 5, 3) := sorry
theorem dX1_verify_22 : decode cX1_verify 22 = .ok (.iconst 1, 1) := sorry
theorem dX1_verify_23 : decode cX1_verify 23 = .ok (.ireturn, 1) := sorry
theorem dX1_verify_24 : decode cX1_verify 24 = .ok (.aload 4, 2) := sorry
theorem dX1_verify_26 : decode cX1_verify 26 = .ok (.getfield 290, 3) := sorry
theorem dX1_verify_29 : decode cX1_verify 29 = .ok (.ifCond .eq 16, 3) := sorry
theorem dX1_verify_32 : decode cX1_verify 32 = .ok (.aload 4, 2) := sorry
theorem dX1_verify_34 : decode cX1_verify 34 = .ok (.iload 5, 2) := sorry
theorem dX1_verify_36 : decode cX1_verify 36 = .ok (.invokevirtual 302, 3) := sorry
theorem dX1_verify_39 : decode cX1_verify 39 = .ok (.iload_n 3, 1) := sorry
theorem dX1_verify_40 : decode cX1_verify 40 = .ok (.if_icmp .eq 5, 3) := sorry
theorem dX1_verify_43 : decode cX1_verify 43 = .ok (.iconst 2, 1) := sorry
theorem dX1_verify_44 : decode cX1_verify 44 = .ok (.ireturn, 1) := sorry
theorem dX1_verify_45 : decode cX1_verify 45 = .ok (.aload_n 0, 1) := sorry
theorem dX1_verify_46 : decode cX1_verify 46 = .ok (.iload_n 1, 1) := sorry
theorem dX1_verify_47 : decode cX1_verify 47 = .ok (.iload_n 2, 1) := sorry
theorem dX1_verify_48 : decode cX1_verify 48 = .ok (.iconst 1, 1) := sorry
theorem dX1_verify_49 : decode cX1_verify 49 = .ok (.invokevirtual 331, 3) := sorry
theorem dX1_verify_52 : decode cX1_verify 52 = .ok (.iconst (-1), 1) := sorry
theorem dX1_verify_53 : decode cX1_verify 53 = .ok (.if_icmp .ne 7, 3) := sorry
theorem dX1_verify_56 : decode cX1_verify 56 = .ok (.iconst 3, 1) := sorry
theorem dX1_verify_57 : decode cX1_verify 57 = .ok (.goto 4, 3) := sorry
theorem dX1_verify_60 : decode cX1_verify 60 = .ok (.iconst 0, 1) := sorry
theorem dX1_verify_61 : decode cX1_verify 61 = .ok (.ireturn, 1) := sorry
abbrev cX1_run : ByteArray := prog_1_method_54_code
def yX1_run : MethodName := ⟨RX1, "run", "(I)I"⟩
def dkwX1_run_1 : List UInt8 := [27, 182, 1, 87, 172]
abbrev dktX1_run_1 : List UInt8 := dkwX1_run_1 ++ []
def dkwX1_run_0 : List UInt8 := [27, 133, 10, 20, 1, 85, 184, 0, 10, 184, 0, 137, 42, 182, 0, 205, 42, 182, 0, 140, 42, 180, 0, 59]
abbrev dktX1_run_0 : List UInt8 := dkwX1_run_0 ++ dktX1_run_1
theorem dksX1_run_0 : cX1_run.data.toList.drop 0 = dktX1_run_0 := sorry
theorem dksX1_run_1 : cX1_run.data.toList.drop 24 = dktX1_run_1 := sorry
theorem dX1_run_0 : decode cX1_run 0 = .ok (.iload_n 1, 1) := sorry
theorem dX1_run_1 : decode cX1_run 1 = .ok (.i2l, 1) := sorry
theorem dX1_run_2 : decode cX1_run 2 = .ok (.lconst 1, 1) := sorry
theorem dX1_run_3 : decode cX1_run 3 = .ok (.ldc2_w 341, 3) := sorry
theorem dX1_run_6 : decode cX1_run 6 = .ok (.invokestatic 10, 3) := sorry
theorem dX1_run_9 : decode cX1_run 9 = .ok (.invokestatic 137, 3) := sorry
theorem dX1_run_12 : decode cX1_run 12 = .ok (.aload_n 0, 1) := sorry
theorem dX1_run_13 : decode cX1_run 13 = .ok (.invokevirtual 205, 3) := sorry
theorem dX1_run_16 : decode cX1_run 16 = .ok (.aload_n 0, 1) := sorry
theorem dX1_run_17 : decode cX1_run 17 = .ok (.invokevirtual 140, 3) := sorry
theorem dX1_run_20 : decode cX1_run 20 = .ok (.aload_n 0, 1) := sorry
theorem dX1_run_21 : decode cX1_run 21 = .ok (.getfield 59, 3) := sorry
theorem dX1_run_24 : decode cX1_run 24 = .ok (.iload_n 1, 1) := sorry
theorem dX1_run_25 : decode cX1_run 25 = .ok (.invokevirtual 343, 3) := sorry
theorem dX1_run_28 : decode cX1_run 28 = .ok (.ireturn, 1) := sorry
abbrev cX1_wouldRun : ByteArray := prog_1_method_55_code
def yX1_wouldRun : MethodName := ⟨RX1, "wouldRun", "(II)I"⟩
def dkwX1_wouldRun_3 : List UInt8 := [21, 4, 172, 45, 180, 0, 211, 172, 45, 180, 0, 148, 172, 45, 180, 0, 187, 172]
abbrev dktX1_wouldRun_3 : List UInt8 := dkwX1_wouldRun_3 ++ []
def dkwX1_wouldRun_2 : List UInt8 := [170, 0, 0, 0, 0, 39, 0, 0, 0, 0, 0, 0, 0, 2, 0, 0, 0, 26, 0, 0, 0, 29, 0, 0, 0, 34]
abbrev dktX1_wouldRun_2 : List UInt8 := dkwX1_wouldRun_2 ++ dktX1_wouldRun_3
def dkwX1_wouldRun_1 : List UInt8 := [89, 42, 42, 180, 0, 59, 183, 0, 106, 78, 45, 27, 182, 1, 87, 54, 4, 28]
abbrev dktX1_wouldRun_1 : List UInt8 := dkwX1_wouldRun_1 ++ dktX1_wouldRun_2
def dkwX1_wouldRun_0 : List UInt8 := [27, 133, 10, 20, 1, 85, 184, 0, 10, 184, 0, 137, 42, 182, 0, 205, 28, 6, 184, 0, 223, 187, 0, 54]
abbrev dktX1_wouldRun_0 : List UInt8 := dkwX1_wouldRun_0 ++ dktX1_wouldRun_1
theorem dksX1_wouldRun_0 : cX1_wouldRun.data.toList.drop 0 = dktX1_wouldRun_0 := sorry
theorem dksX1_wouldRun_1 : cX1_wouldRun.data.toList.drop 24 = dktX1_wouldRun_1 := sorry
theorem dksX1_wouldRun_2 : cX1_wouldRun.data.toList.drop 42 = dktX1_wouldRun_2 := sorry
theorem dksX1_wouldRun_3 : cX1_wouldRun.data.toList.drop 68 = dktX1_wouldRun_3 := sorry
theorem dX1_wouldRun_0 : decode cX1_wouldRun 0 = .ok (.iload_n 1, 1) := sorry
theorem dX1_wouldRun_1 : decode cX1_wouldRun 1 = .ok (.i2l, 1) := sorry
theorem dX1_wouldRun_2 : decode cX1_wouldRun 2 = .ok (.lconst 1, 1) := sorry
theorem dX1_wouldRun_3 : decode cX1_wouldRun 3 = .ok (.ldc2_w 341, 3) := sorry
theorem dX1_wouldRun_6 : decode cX1_wouldRun 6 = .ok (.invokestatic 10, 3) := sorry
theorem dX1_wouldRun_9 : decode cX1_wouldRun 9 = .ok (.invokestatic 137, 3) := sorry
theorem dX1_wouldRun_12 : decode cX1_wouldRun 12 = .ok (.aload_n 0, 1) := sorry
theorem dX1_wouldRun_13 : decode cX1_wouldRun 13 = .ok (.invokevirtual 205, 3) := sorry
theorem dX1_wouldRun_16 : decode cX1_wouldRun 16 = .ok (.iload_n 2, 1) := sorry
theorem dX1_wouldRun_17 : decode cX1_wouldRun 17 = .ok (.iconst 3, 1) := sorry
theorem dX1_wouldRun_18 : decode cX1_wouldRun 18 = .ok (.invokestatic 223, 3) := sorry
theorem dX1_wouldRun_21 : decode cX1_wouldRun 21 = .ok (.new 54, 3) := sorry
theorem dX1_wouldRun_24 : decode cX1_wouldRun 24 = .ok (.dup, 1) := sorry
theorem dX1_wouldRun_25 : decode cX1_wouldRun 25 = .ok (.aload_n 0, 1) := sorry
theorem dX1_wouldRun_26 : decode cX1_wouldRun 26 = .ok (.aload_n 0, 1) := sorry
theorem dX1_wouldRun_27 : decode cX1_wouldRun 27 = .ok (.getfield 59, 3) := sorry
theorem dX1_wouldRun_30 : decode cX1_wouldRun 30 = .ok (.invokespecial 106, 3) := sorry
theorem dX1_wouldRun_33 : decode cX1_wouldRun 33 = .ok (.astore_n 3, 1) := sorry
theorem dX1_wouldRun_34 : decode cX1_wouldRun 34 = .ok (.aload_n 3, 1) := sorry
theorem dX1_wouldRun_35 : decode cX1_wouldRun 35 = .ok (.iload_n 1, 1) := sorry
theorem dX1_wouldRun_36 : decode cX1_wouldRun 36 = .ok (.invokevirtual 343, 3) := sorry
theorem dX1_wouldRun_39 : decode cX1_wouldRun 39 = .ok (.istore 4, 2) := sorry
theorem dX1_wouldRun_41 : decode cX1_wouldRun 41 = .ok (.iload_n 2, 1) := sorry
theorem dX1_wouldRun_42 : decode cX1_wouldRun 42 = .ok (.tableswitch 39 0 2 #[26, 29, 34], 26) := sorry
theorem dX1_wouldRun_68 : decode cX1_wouldRun 68 = .ok (.iload 4, 2) := sorry
theorem dX1_wouldRun_70 : decode cX1_wouldRun 70 = .ok (.ireturn, 1) := sorry
theorem dX1_wouldRun_71 : decode cX1_wouldRun 71 = .ok (.aload_n 3, 1) := sorry
theorem dX1_wouldRun_72 : decode cX1_wouldRun 72 = .ok (.getfield 211, 3) := sorry
theorem dX1_wouldRun_75 : decode cX1_wouldRun 75 = .ok (.ireturn, 1) := sorry
theorem dX1_wouldRun_76 : decode cX1_wouldRun 76 = .ok (.aload_n 3, 1) := sorry
theorem dX1_wouldRun_77 : decode cX1_wouldRun 77 = .ok (.getfield 148, 3) := sorry
theorem dX1_wouldRun_80 : decode cX1_wouldRun 80 = .ok (.ireturn, 1) := sorry
theorem dX1_wouldRun_81 : decode cX1_wouldRun 81 = .ok (.aload_n 3, 1) := sorry
theorem dX1_wouldRun_82 : decode cX1_wouldRun 82 = .ok (.getfield 187, 3) := sorry
theorem dX1_wouldRun_85 : decode cX1_wouldRun 85 = .ok (.ireturn, 1) := sorry
abbrev cX1_logField : ByteArray := prog_1_method_57_code
def yX1_logField : MethodName := ⟨RX1, "logField", "(II)I"⟩
def dkwX1_logField_2 : List UInt8 := [167, 0, 4, 2, 172]
abbrev dktX1_logField_2 : List UInt8 := dkwX1_logField_2 ++ []
def dkwX1_logField_1 : List UInt8 := [42, 180, 0, 59, 180, 1, 93, 7, 42, 180, 0, 59, 180, 1, 90, 4, 100, 27, 100, 104, 28, 96, 46]
abbrev dktX1_logField_1 : List UInt8 := dkwX1_logField_1 ++ dktX1_logField_2
def dkwX1_logField_0 : List UInt8 := [28, 6, 184, 0, 223, 27, 133, 9, 42, 180, 0, 59, 180, 1, 90, 4, 100, 133, 184, 0, 10, 153, 0, 29]
abbrev dktX1_logField_0 : List UInt8 := dkwX1_logField_0 ++ dktX1_logField_1
theorem dksX1_logField_0 : cX1_logField.data.toList.drop 0 = dktX1_logField_0 := sorry
theorem dksX1_logField_1 : cX1_logField.data.toList.drop 24 = dktX1_logField_1 := sorry
theorem dksX1_logField_2 : cX1_logField.data.toList.drop 47 = dktX1_logField_2 := sorry
theorem dX1_logField_0 : decode cX1_logField 0 = .ok (.iload_n 2, 1) := sorry
theorem dX1_logField_1 : decode cX1_logField 1 = .ok (.iconst 3, 1) := sorry
theorem dX1_logField_2 : decode cX1_logField 2 = .ok (.invokestatic 223, 3) := sorry
theorem dX1_logField_5 : decode cX1_logField 5 = .ok (.iload_n 1, 1) := sorry
theorem dX1_logField_6 : decode cX1_logField 6 = .ok (.i2l, 1) := sorry
theorem dX1_logField_7 : decode cX1_logField 7 = .ok (.lconst 0, 1) := sorry
theorem dX1_logField_8 : decode cX1_logField 8 = .ok (.aload_n 0, 1) := sorry
theorem dX1_logField_9 : decode cX1_logField 9 = .ok (.getfield 59, 3) := sorry
theorem dX1_logField_12 : decode cX1_logField 12 = .ok (.getfield 346, 3) := sorry
theorem dX1_logField_15 : decode cX1_logField 15 = .ok (.iconst 1, 1) := sorry
theorem dX1_logField_16 : decode cX1_logField 16 = .ok (.isub, 1) := sorry
theorem dX1_logField_17 : decode cX1_logField 17 = .ok (.i2l, 1) := sorry
theorem dX1_logField_18 : decode cX1_logField 18 = .ok (.invokestatic 10, 3) := sorry
theorem dX1_logField_21 : decode cX1_logField 21 = .ok (.ifCond .eq 29, 3) := sorry
theorem dX1_logField_24 : decode cX1_logField 24 = .ok (.aload_n 0, 1) := sorry
theorem dX1_logField_25 : decode cX1_logField 25 = .ok (.getfield 59, 3) := sorry
theorem dX1_logField_28 : decode cX1_logField 28 = .ok (.getfield 349, 3) := sorry
theorem dX1_logField_31 : decode cX1_logField 31 = .ok (.iconst 4, 1) := sorry
theorem dX1_logField_32 : decode cX1_logField 32 = .ok (.aload_n 0, 1) := sorry
theorem dX1_logField_33 : decode cX1_logField 33 = .ok (.getfield 59, 3) := sorry
theorem dX1_logField_36 : decode cX1_logField 36 = .ok (.getfield 346, 3) := sorry
theorem dX1_logField_39 : decode cX1_logField 39 = .ok (.iconst 1, 1) := sorry
theorem dX1_logField_40 : decode cX1_logField 40 = .ok (.isub, 1) := sorry
theorem dX1_logField_41 : decode cX1_logField 41 = .ok (.iload_n 1, 1) := sorry
theorem dX1_logField_42 : decode cX1_logField 42 = .ok (.isub, 1) := sorry
theorem dX1_logField_43 : decode cX1_logField 43 = .ok (.imul, 1) := sorry
theorem dX1_logField_44 : decode cX1_logField 44 = .ok (.iload_n 2, 1) := sorry
theorem dX1_logField_45 : decode cX1_logField 45 = .ok (.iadd, 1) := sorry
theorem dX1_logField_46 : decode cX1_logField 46 = .ok (.iaload, 1) := sorry
theorem dX1_logField_47 : decode cX1_logField 47 = .ok (.goto 4, 3) := sorry
theorem dX1_logField_50 : decode cX1_logField 50 = .ok (.iconst (-1), 1) := sorry
theorem dX1_logField_51 : decode cX1_logField 51 = .ok (.ireturn, 1) := sorry
abbrev cX1_makeVoid : ByteArray := prog_1_method_62_code
def yX1_makeVoid : MethodName := ⟨RX1, "makeVoid", "(II)I"⟩
def dkwX1_makeVoid_2 : List UInt8 := [180, 1, 99, 6, 92, 46, 4, 96, 79, 42, 27, 5, 182, 1, 54, 172]
abbrev dktX1_makeVoid_2 : List UInt8 := dkwX1_makeVoid_2 ++ []
def dkwX1_makeVoid_1 : List UInt8 := [3, 184, 0, 117, 42, 182, 0, 140, 42, 180, 0, 59, 180, 1, 49, 29, 5, 79, 42, 180, 0, 59]
abbrev dktX1_makeVoid_1 : List UInt8 := dkwX1_makeVoid_1 ++ dktX1_makeVoid_2
def dkwX1_makeVoid_0 : List UInt8 := [42, 27, 28, 182, 1, 40, 62, 42, 180, 0, 59, 180, 1, 49, 29, 46, 4, 160, 0, 7, 4, 167, 0, 4]
abbrev dktX1_makeVoid_0 : List UInt8 := dkwX1_makeVoid_0 ++ dktX1_makeVoid_1
theorem dksX1_makeVoid_0 : cX1_makeVoid.data.toList.drop 0 = dktX1_makeVoid_0 := sorry
theorem dksX1_makeVoid_1 : cX1_makeVoid.data.toList.drop 24 = dktX1_makeVoid_1 := sorry
theorem dksX1_makeVoid_2 : cX1_makeVoid.data.toList.drop 46 = dktX1_makeVoid_2 := sorry
theorem dX1_makeVoid_0 : decode cX1_makeVoid 0 = .ok (.aload_n 0, 1) := sorry
theorem dX1_makeVoid_1 : decode cX1_makeVoid 1 = .ok (.iload_n 1, 1) := sorry
theorem dX1_makeVoid_2 : decode cX1_makeVoid 2 = .ok (.iload_n 2, 1) := sorry
theorem dX1_makeVoid_3 : decode cX1_makeVoid 3 = .ok (.invokevirtual 296, 3) := sorry
theorem dX1_makeVoid_6 : decode cX1_makeVoid 6 = .ok (.istore_n 3, 1) := sorry
theorem dX1_makeVoid_7 : decode cX1_makeVoid 7 = .ok (.aload_n 0, 1) := sorry
theorem dX1_makeVoid_8 : decode cX1_makeVoid 8 = .ok (.getfield 59, 3) := sorry
theorem dX1_makeVoid_11 : decode cX1_makeVoid 11 = .ok (.getfield 305, 3) := sorry
theorem dX1_makeVoid_14 : decode cX1_makeVoid 14 = .ok (.iload_n 3, 1) := sorry
theorem dX1_makeVoid_15 : decode cX1_makeVoid 15 = .ok (.iaload, 1) := sorry
theorem dX1_makeVoid_16 : decode cX1_makeVoid 16 = .ok (.iconst 1, 1) := sorry
theorem dX1_makeVoid_17 : decode cX1_makeVoid 17 = .ok (.if_icmp .ne 7, 3) := sorry
theorem dX1_makeVoid_20 : decode cX1_makeVoid 20 = .ok (.iconst 1, 1) := sorry
theorem dX1_makeVoid_21 : decode cX1_makeVoid 21 = .ok (.goto 4, 3) := sorry
theorem dX1_makeVoid_24 : decode cX1_makeVoid 24 = .ok (.iconst 0, 1) := sorry
theorem dX1_makeVoid_25 : decode cX1_makeVoid 25 = .ok (.invokestatic 117, 3) := sorry
theorem dX1_makeVoid_28 : decode cX1_makeVoid 28 = .ok (.aload_n 0, 1) := sorry
theorem dX1_makeVoid_29 : decode cX1_makeVoid 29 = .ok (.invokevirtual 140, 3) := sorry
theorem dX1_makeVoid_32 : decode cX1_makeVoid 32 = .ok (.aload_n 0, 1) := sorry
theorem dX1_makeVoid_33 : decode cX1_makeVoid 33 = .ok (.getfield 59, 3) := sorry
theorem dX1_makeVoid_36 : decode cX1_makeVoid 36 = .ok (.getfield 305, 3) := sorry
theorem dX1_makeVoid_39 : decode cX1_makeVoid 39 = .ok (.iload_n 3, 1) := sorry
theorem dX1_makeVoid_40 : decode cX1_makeVoid 40 = .ok (.iconst 2, 1) := sorry
theorem dX1_makeVoid_41 : decode cX1_makeVoid 41 = .ok (.iastore, 1) := sorry
theorem dX1_makeVoid_42 : decode cX1_makeVoid 42 = .ok (.aload_n 0, 1) := sorry
theorem dX1_makeVoid_43 : decode cX1_makeVoid 43 = .ok (.getfield 59, 3) := sorry
theorem dX1_makeVoid_46 : decode cX1_makeVoid 46 = .ok (.getfield 355, 3) := sorry
theorem dX1_makeVoid_49 : decode cX1_makeVoid 49 = .ok (.iconst 3, 1) := sorry
theorem dX1_makeVoid_50 : decode cX1_makeVoid 50 = .ok (.dup2, 1) := sorry
theorem dX1_makeVoid_51 : decode cX1_makeVoid 51 = .ok (.iaload, 1) := sorry
theorem dX1_makeVoid_52 : decode cX1_makeVoid 52 = .ok (.iconst 1, 1) := sorry
theorem dX1_makeVoid_53 : decode cX1_makeVoid 53 = .ok (.iadd, 1) := sorry
theorem dX1_makeVoid_54 : decode cX1_makeVoid 54 = .ok (.iastore, 1) := sorry
theorem dX1_makeVoid_55 : decode cX1_makeVoid 55 = .ok (.aload_n 0, 1) := sorry
theorem dX1_makeVoid_56 : decode cX1_makeVoid 56 = .ok (.iload_n 1, 1) := sorry
theorem dX1_makeVoid_57 : decode cX1_makeVoid 57 = .ok (.iconst 2, 1) := sorry
theorem dX1_makeVoid_58 : decode cX1_makeVoid 58 = .ok (.invokevirtual 310, 3) := sorry
theorem dX1_makeVoid_61 : decode cX1_makeVoid 61 = .ok (.ireturn, 1) := sorry
abbrev cX1_requeue : ByteArray := prog_1_method_63_code
def yX1_requeue : MethodName := ⟨RX1, "requeue", "(II)I"⟩
def dkwX1_requeue_3 : List UInt8 := [180, 0, 59, 180, 1, 57, 182, 0, 101, 172]
abbrev dktX1_requeue_3 : List UInt8 := dkwX1_requeue_3 ++ []
def dkwX1_requeue_2 : List UInt8 := [167, 0, 4, 3, 184, 0, 117, 42, 182, 0, 140, 42, 180, 0, 59, 180, 1, 57, 25, 4, 182, 0, 109, 42]
abbrev dktX1_requeue_2 : List UInt8 := dkwX1_requeue_2 ++ dktX1_requeue_3
def dkwX1_requeue_1 : List UInt8 := [180, 1, 49, 29, 46, 5, 160, 0, 19, 42, 180, 0, 59, 25, 4, 182, 1, 102, 154, 0, 7, 4]
abbrev dktX1_requeue_1 : List UInt8 := dkwX1_requeue_1 ++ dktX1_requeue_2
def dkwX1_requeue_0 : List UInt8 := [42, 27, 28, 182, 1, 40, 62, 187, 1, 64, 89, 27, 28, 183, 1, 79, 58, 4, 42, 180, 0, 59]
abbrev dktX1_requeue_0 : List UInt8 := dkwX1_requeue_0 ++ dktX1_requeue_1
theorem dksX1_requeue_0 : cX1_requeue.data.toList.drop 0 = dktX1_requeue_0 := sorry
theorem dksX1_requeue_1 : cX1_requeue.data.toList.drop 22 = dktX1_requeue_1 := sorry
theorem dksX1_requeue_2 : cX1_requeue.data.toList.drop 44 = dktX1_requeue_2 := sorry
theorem dksX1_requeue_3 : cX1_requeue.data.toList.drop 68 = dktX1_requeue_3 := sorry
theorem dX1_requeue_0 : decode cX1_requeue 0 = .ok (.aload_n 0, 1) := sorry
theorem dX1_requeue_1 : decode cX1_requeue 1 = .ok (.iload_n 1, 1) := sorry
theorem dX1_requeue_2 : decode cX1_requeue 2 = .ok (.iload_n 2, 1) := sorry
theorem dX1_requeue_3 : decode cX1_requeue 3 = .ok (.invokevirtual 296, 3) := sorry
theorem dX1_requeue_6 : decode cX1_requeue 6 = .ok (.istore_n 3, 1) := sorry
theorem dX1_requeue_7 : decode cX1_requeue 7 = .ok (.new 320, 3) := sorry
theorem dX1_requeue_10 : decode cX1_requeue 10 = .ok (.dup, 1) := sorry
theorem dX1_requeue_11 : decode cX1_requeue 11 = .ok (.iload_n 1, 1) := sorry
theorem dX1_requeue_12 : decode cX1_requeue 12 = .ok (.iload_n 2, 1) := sorry
theorem dX1_requeue_13 : decode cX1_requeue 13 = .ok (.invokespecial 335, 3) := sorry
theorem dX1_requeue_16 : decode cX1_requeue 16 = .ok (.astore 4, 2) := sorry
theorem dX1_requeue_18 : decode cX1_requeue 18 = .ok (.aload_n 0, 1) := sorry
theorem dX1_requeue_19 : decode cX1_requeue 19 = .ok (.getfield 59, 3) := sorry
theorem dX1_requeue_22 : decode cX1_requeue 22 = .ok (.getfield 305, 3) := sorry
theorem dX1_requeue_25 : decode cX1_requeue 25 = .ok (.iload_n 3, 1) := sorry
theorem dX1_requeue_26 : decode cX1_requeue 26 = .ok (.iaload, 1) := sorry
theorem dX1_requeue_27 : decode cX1_requeue 27 = .ok (.iconst 2, 1) := sorry
theorem dX1_requeue_28 : decode cX1_requeue 28 = .ok (.if_icmp .ne 19, 3) := sorry
theorem dX1_requeue_31 : decode cX1_requeue 31 = .ok (.aload_n 0, 1) := sorry
theorem dX1_requeue_32 : decode cX1_requeue 32 = .ok (.getfield 59, 3) := sorry
theorem dX1_requeue_35 : decode cX1_requeue 35 = .ok (.aload 4, 2) := sorry
theorem dX1_requeue_37 : decode cX1_requeue 37 = .ok (.invokevirtual 358, 3) := sorry
theorem dX1_requeue_40 : decode cX1_requeue 40 = .ok (.ifCond .ne 7, 3) := sorry
theorem dX1_requeue_43 : decode cX1_requeue 43 = .ok (.iconst 1, 1) := sorry
theorem dX1_requeue_44 : decode cX1_requeue 44 = .ok (.goto 4, 3) := sorry
theorem dX1_requeue_47 : decode cX1_requeue 47 = .ok (.iconst 0, 1) := sorry
theorem dX1_requeue_48 : decode cX1_requeue 48 = .ok (.invokestatic 117, 3) := sorry
theorem dX1_requeue_51 : decode cX1_requeue 51 = .ok (.aload_n 0, 1) := sorry
theorem dX1_requeue_52 : decode cX1_requeue 52 = .ok (.invokevirtual 140, 3) := sorry
theorem dX1_requeue_55 : decode cX1_requeue 55 = .ok (.aload_n 0, 1) := sorry
theorem dX1_requeue_56 : decode cX1_requeue 56 = .ok (.getfield 59, 3) := sorry
theorem dX1_requeue_59 : decode cX1_requeue 59 = .ok (.getfield 313, 3) := sorry
theorem dX1_requeue_62 : decode cX1_requeue 62 = .ok (.aload 4, 2) := sorry
theorem dX1_requeue_64 : decode cX1_requeue 64 = .ok (.invokevirtual 109, 3) := sorry
theorem dX1_requeue_67 : decode cX1_requeue 67 = .ok (.aload_n 0, 1) := sorry
theorem dX1_requeue_68 : decode cX1_requeue 68 = .ok (.getfield 59, 3) := sorry
theorem dX1_requeue_71 : decode cX1_requeue 71 = .ok (.getfield 313, 3) := sorry
theorem dX1_requeue_74 : decode cX1_requeue 74 = .ok (.invokevirtual 101, 3) := sorry
theorem dX1_requeue_77 : decode cX1_requeue 77 = .ok (.ireturn, 1) := sorry
abbrev cX1_unqueue : ByteArray := prog_1_method_64_code
def yX1_unqueue : MethodName := ⟨RX1, "unqueue", "(II)I"⟩
def dkwX1_unqueue_2 : List UInt8 := [182, 1, 106, 42, 180, 0, 59, 180, 1, 57, 182, 0, 101, 172]
abbrev dktX1_unqueue_2 : List UInt8 := dkwX1_unqueue_2 ++ []
def dkwX1_unqueue_1 : List UInt8 := [182, 1, 102, 184, 0, 117, 42, 182, 0, 140, 42, 180, 0, 59, 45, 182, 1, 66, 45, 182, 1, 66]
abbrev dktX1_unqueue_1 : List UInt8 := dkwX1_unqueue_1 ++ dktX1_unqueue_2
def dkwX1_unqueue_0 : List UInt8 := [42, 27, 28, 182, 1, 40, 87, 187, 1, 64, 89, 27, 28, 183, 1, 79, 78, 42, 180, 0, 59, 45]
abbrev dktX1_unqueue_0 : List UInt8 := dkwX1_unqueue_0 ++ dktX1_unqueue_1
theorem dksX1_unqueue_0 : cX1_unqueue.data.toList.drop 0 = dktX1_unqueue_0 := sorry
theorem dksX1_unqueue_1 : cX1_unqueue.data.toList.drop 22 = dktX1_unqueue_1 := sorry
theorem dksX1_unqueue_2 : cX1_unqueue.data.toList.drop 44 = dktX1_unqueue_2 := sorry
theorem dX1_unqueue_0 : decode cX1_unqueue 0 = .ok (.aload_n 0, 1) := sorry
theorem dX1_unqueue_1 : decode cX1_unqueue 1 = .ok (.iload_n 1, 1) := sorry
theorem dX1_unqueue_2 : decode cX1_unqueue 2 = .ok (.iload_n 2, 1) := sorry
theorem dX1_unqueue_3 : decode cX1_unqueue 3 = .ok (.invokevirtual 296, 3) := sorry
theorem dX1_unqueue_6 : decode cX1_unqueue 6 = .ok (.pop, 1) := sorry
theorem dX1_unqueue_7 : decode cX1_unqueue 7 = .ok (.new 320, 3) := sorry
theorem dX1_unqueue_10 : decode cX1_unqueue 10 = .ok (.dup, 1) := sorry
theorem dX1_unqueue_11 : decode cX1_unqueue 11 = .ok (.iload_n 1, 1) := sorry
theorem dX1_unqueue_12 : decode cX1_unqueue 12 = .ok (.iload_n 2, 1) := sorry
theorem dX1_unqueue_13 : decode cX1_unqueue 13 = .ok (.invokespecial 335, 3) := sorry
theorem dX1_unqueue_16 : decode cX1_unqueue 16 = .ok (.astore_n 3, 1) := sorry
theorem dX1_unqueue_17 : decode cX1_unqueue 17 = .ok (.aload_n 0, 1) := sorry
theorem dX1_unqueue_18 : decode cX1_unqueue 18 = .ok (.getfield 59, 3) := sorry
theorem dX1_unqueue_21 : decode cX1_unqueue 21 = .ok (.aload_n 3, 1) := sorry
theorem dX1_unqueue_22 : decode cX1_unqueue 22 = .ok (.invokevirtual 358, 3) := sorry
theorem dX1_unqueue_25 : decode cX1_unqueue 25 = .ok (.invokestatic 117, 3) := sorry
theorem dX1_unqueue_28 : decode cX1_unqueue 28 = .ok (.aload_n 0, 1) := sorry
theorem dX1_unqueue_29 : decode cX1_unqueue 29 = .ok (.invokevirtual 140, 3) := sorry
theorem dX1_unqueue_32 : decode cX1_unqueue 32 = .ok (.aload_n 0, 1) := sorry
theorem dX1_unqueue_33 : decode cX1_unqueue 33 = .ok (.getfield 59, 3) := sorry
theorem dX1_unqueue_36 : decode cX1_unqueue 36 = .ok (.aload_n 3, 1) := sorry
theorem dX1_unqueue_37 : decode cX1_unqueue 37 = .ok (.invokevirtual 322, 3) := sorry
theorem dX1_unqueue_40 : decode cX1_unqueue 40 = .ok (.aload_n 3, 1) := sorry
theorem dX1_unqueue_41 : decode cX1_unqueue 41 = .ok (.invokevirtual 322, 3) := sorry
theorem dX1_unqueue_44 : decode cX1_unqueue 44 = .ok (.invokevirtual 362, 3) := sorry
theorem dX1_unqueue_47 : decode cX1_unqueue 47 = .ok (.aload_n 0, 1) := sorry
theorem dX1_unqueue_48 : decode cX1_unqueue 48 = .ok (.getfield 59, 3) := sorry
theorem dX1_unqueue_51 : decode cX1_unqueue 51 = .ok (.getfield 313, 3) := sorry
theorem dX1_unqueue_54 : decode cX1_unqueue 54 = .ok (.invokevirtual 101, 3) := sorry
theorem dX1_unqueue_57 : decode cX1_unqueue 57 = .ok (.ireturn, 1) := sorry
abbrev cX1_abandon : ByteArray := prog_1_method_65_code
def yX1_abandon : MethodName := ⟨RX1, "abandon", "(I)I"⟩
def dkwX1_abandon_4 : List UInt8 := [16, 40, 96, 182, 1, 106, 29, 172]
abbrev dktX1_abandon_4 : List UInt8 := dkwX1_abandon_4 ++ []
def dkwX1_abandon_3 : List UInt8 := [180, 0, 59, 180, 1, 99, 6, 92, 46, 29, 96, 79, 42, 180, 0, 59, 16, 100, 27, 104, 16, 100, 27, 104]
abbrev dktX1_abandon_3 : List UInt8 := dkwX1_abandon_3 ++ dktX1_abandon_4
def dkwX1_abandon_2 : List UInt8 := [42, 180, 0, 59, 180, 1, 49, 16, 40, 27, 104, 21, 4, 96, 5, 79, 132, 4, 1, 167, 255, 210, 42]
abbrev dktX1_abandon_2 : List UInt8 := dkwX1_abandon_2 ++ dktX1_abandon_3
def dkwX1_abandon_1 : List UInt8 := [180, 1, 22, 162, 0, 43, 42, 180, 0, 59, 180, 1, 49, 16, 40, 27, 104, 21, 4, 96, 46, 154, 0, 19]
abbrev dktX1_abandon_1 : List UInt8 := dkwX1_abandon_1 ++ dktX1_abandon_2
def dkwX1_abandon_0 : List UInt8 := [42, 27, 182, 1, 18, 77, 42, 182, 0, 140, 42, 27, 3, 182, 1, 54, 62, 3, 54, 4, 21, 4, 44]
abbrev dktX1_abandon_0 : List UInt8 := dkwX1_abandon_0 ++ dktX1_abandon_1
theorem dksX1_abandon_0 : cX1_abandon.data.toList.drop 0 = dktX1_abandon_0 := sorry
theorem dksX1_abandon_1 : cX1_abandon.data.toList.drop 23 = dktX1_abandon_1 := sorry
theorem dksX1_abandon_2 : cX1_abandon.data.toList.drop 47 = dktX1_abandon_2 := sorry
theorem dksX1_abandon_3 : cX1_abandon.data.toList.drop 70 = dktX1_abandon_3 := sorry
theorem dksX1_abandon_4 : cX1_abandon.data.toList.drop 94 = dktX1_abandon_4 := sorry
theorem dX1_abandon_0 : decode cX1_abandon 0 = .ok (.aload_n 0, 1) := sorry
theorem dX1_abandon_1 : decode cX1_abandon 1 = .ok (.iload_n 1, 1) := sorry
theorem dX1_abandon_2 : decode cX1_abandon 2 = .ok (.invokevirtual 274, 3) := sorry
theorem dX1_abandon_5 : decode cX1_abandon 5 = .ok (.astore_n 2, 1) := sorry
theorem dX1_abandon_6 : decode cX1_abandon 6 = .ok (.aload_n 0, 1) := sorry
theorem dX1_abandon_7 : decode cX1_abandon 7 = .ok (.invokevirtual 140, 3) := sorry
theorem dX1_abandon_10 : decode cX1_abandon 10 = .ok (.aload_n 0, 1) := sorry
theorem dX1_abandon_11 : decode cX1_abandon 11 = .ok (.iload_n 1, 1) := sorry
theorem dX1_abandon_12 : decode cX1_abandon 12 = .ok (.iconst 0, 1) := sorry
theorem dX1_abandon_13 : decode cX1_abandon 13 = .ok (.invokevirtual 310, 3) := sorry
theorem dX1_abandon_16 : decode cX1_abandon 16 = .ok (.istore_n 3, 1) := sorry
theorem dX1_abandon_17 : decode cX1_abandon 17 = .ok (.iconst 0, 1) := sorry
theorem dX1_abandon_18 : decode cX1_abandon 18 = .ok (.istore 4, 2) := sorry
theorem dX1_abandon_20 : decode cX1_abandon 20 = .ok (.iload 4, 2) := sorry
theorem dX1_abandon_22 : decode cX1_abandon 22 = .ok (.aload_n 2, 1) := sorry
theorem dX1_abandon_23 : decode cX1_abandon 23 = .ok (.getfield 278, 3) := sorry
theorem dX1_abandon_26 : decode cX1_abandon 26 = .ok (.if_icmp .ge 43, 3) := sorry
theorem dX1_abandon_29 : decode cX1_abandon 29 = .ok (.aload_n 0, 1) := sorry
theorem dX1_abandon_30 : decode cX1_abandon 30 = .ok (.getfield 59, 3) := sorry
theorem dX1_abandon_33 : decode cX1_abandon 33 = .ok (.getfield 305, 3) := sorry
theorem dX1_abandon_36 : decode cX1_abandon 36 = .ok (.bipush 40, 2) := sorry
theorem dX1_abandon_38 : decode cX1_abandon 38 = .ok (.iload_n 1, 1) := sorry
theorem dX1_abandon_39 : decode cX1_abandon 39 = .ok (.imul, 1) := sorry
theorem dX1_abandon_40 : decode cX1_abandon 40 = .ok (.iload 4, 2) := sorry
theorem dX1_abandon_42 : decode cX1_abandon 42 = .ok (.iadd, 1) := sorry
theorem dX1_abandon_43 : decode cX1_abandon 43 = .ok (.iaload, 1) := sorry
theorem dX1_abandon_44 : decode cX1_abandon 44 = .ok (.ifCond .ne 19, 3) := sorry
theorem dX1_abandon_47 : decode cX1_abandon 47 = .ok (.aload_n 0, 1) := sorry
theorem dX1_abandon_48 : decode cX1_abandon 48 = .ok (.getfield 59, 3) := sorry
theorem dX1_abandon_51 : decode cX1_abandon 51 = .ok (.getfield 305, 3) := sorry
theorem dX1_abandon_54 : decode cX1_abandon 54 = .ok (.bipush 40, 2) := sorry
theorem dX1_abandon_56 : decode cX1_abandon 56 = .ok (.iload_n 1, 1) := sorry
theorem dX1_abandon_57 : decode cX1_abandon 57 = .ok (.imul, 1) := sorry
theorem dX1_abandon_58 : decode cX1_abandon 58 = .ok (.iload 4, 2) := sorry
theorem dX1_abandon_60 : decode cX1_abandon 60 = .ok (.iadd, 1) := sorry
theorem dX1_abandon_61 : decode cX1_abandon 61 = .ok (.iconst 2, 1) := sorry
theorem dX1_abandon_62 : decode cX1_abandon 62 = .ok (.iastore, 1) := sorry
theorem dX1_abandon_63 : decode cX1_abandon 63 = .ok (.iinc 4 1, 3) := sorry
theorem dX1_abandon_66 : decode cX1_abandon 66 = .ok (.goto (-46), 3) := sorry
theorem dX1_abandon_69 : decode cX1_abandon 69 = .ok (.aload_n 0, 1) := sorry
theorem dX1_abandon_70 : decode cX1_abandon 70 = .ok (.getfield 59, 3) := sorry
theorem dX1_abandon_73 : decode cX1_abandon 73 = .ok (.getfield 355, 3) := sorry
theorem dX1_abandon_76 : decode cX1_abandon 76 = .ok (.iconst 3, 1) := sorry
theorem dX1_abandon_77 : decode cX1_abandon 77 = .ok (.dup2, 1) := sorry
theorem dX1_abandon_78 : decode cX1_abandon 78 = .ok (.iaload, 1) := sorry
theorem dX1_abandon_79 : decode cX1_abandon 79 = .ok (.iload_n 3, 1) := sorry
theorem dX1_abandon_80 : decode cX1_abandon 80 = .ok (.iadd, 1) := sorry
theorem dX1_abandon_81 : decode cX1_abandon 81 = .ok (.iastore, 1) := sorry
theorem dX1_abandon_82 : decode cX1_abandon 82 = .ok (.aload_n 0, 1) := sorry
theorem dX1_abandon_83 : decode cX1_abandon 83 = .ok (.getfield 59, 3) := sorry
theorem dX1_abandon_86 : decode cX1_abandon 86 = .ok (.bipush 100, 2) := sorry
theorem dX1_abandon_88 : decode cX1_abandon 88 = .ok (.iload_n 1, 1) := sorry
theorem dX1_abandon_89 : decode cX1_abandon 89 = .ok (.imul, 1) := sorry
theorem dX1_abandon_90 : decode cX1_abandon 90 = .ok (.bipush 100, 2) := sorry
theorem dX1_abandon_92 : decode cX1_abandon 92 = .ok (.iload_n 1, 1) := sorry
theorem dX1_abandon_93 : decode cX1_abandon 93 = .ok (.imul, 1) := sorry
theorem dX1_abandon_94 : decode cX1_abandon 94 = .ok (.bipush 40, 2) := sorry
theorem dX1_abandon_96 : decode cX1_abandon 96 = .ok (.iadd, 1) := sorry
theorem dX1_abandon_97 : decode cX1_abandon 97 = .ok (.invokevirtual 362, 3) := sorry
theorem dX1_abandon_100 : decode cX1_abandon 100 = .ok (.iload_n 3, 1) := sorry
theorem dX1_abandon_101 : decode cX1_abandon 101 = .ok (.ireturn, 1) := sorry
abbrev cX1_ribbonLasts : ByteArray := prog_1_method_68_code
def yX1_ribbonLasts : MethodName := ⟨RX1, "ribbonLasts", "()I"⟩
def dkwX1_ribbonLasts_2 : List UInt8 := [17, 3, 231, 167, 0, 12, 42, 180, 0, 59, 180, 0, 187, 27, 108, 172]
abbrev dktX1_ribbonLasts_2 : List UInt8 := dkwX1_ribbonLasts_2 ++ []
def dkwX1_ribbonLasts_1 : List UInt8 := [180, 0, 229, 184, 0, 238, 42, 180, 0, 43, 180, 1, 115, 100, 184, 1, 1, 60, 27, 154, 0, 9]
abbrev dktX1_ribbonLasts_1 : List UInt8 := dkwX1_ribbonLasts_1 ++ dktX1_ribbonLasts_2
def dkwX1_ribbonLasts_0 : List UInt8 := [42, 182, 0, 205, 3, 42, 180, 0, 43, 180, 1, 115, 42, 180, 0, 43, 180, 1, 118, 96, 42, 180, 0, 59]
abbrev dktX1_ribbonLasts_0 : List UInt8 := dkwX1_ribbonLasts_0 ++ dktX1_ribbonLasts_1
theorem dksX1_ribbonLasts_0 : cX1_ribbonLasts.data.toList.drop 0 = dktX1_ribbonLasts_0 := sorry
theorem dksX1_ribbonLasts_1 : cX1_ribbonLasts.data.toList.drop 24 = dktX1_ribbonLasts_1 := sorry
theorem dksX1_ribbonLasts_2 : cX1_ribbonLasts.data.toList.drop 46 = dktX1_ribbonLasts_2 := sorry
theorem dX1_ribbonLasts_0 : decode cX1_ribbonLasts 0 = .ok (.aload_n 0, 1) := sorry
theorem dX1_ribbonLasts_1 : decode cX1_ribbonLasts 1 = .ok (.invokevirtual 205, 3) := sorry
theorem dX1_ribbonLasts_4 : decode cX1_ribbonLasts 4 = .ok (.iconst 0, 1) := sorry
theorem dX1_ribbonLasts_5 : decode cX1_ribbonLasts 5 = .ok (.aload_n 0, 1) := sorry
theorem dX1_ribbonLasts_6 : decode cX1_ribbonLasts 6 = .ok (.getfield 43, 3) := sorry
theorem dX1_ribbonLasts_9 : decode cX1_ribbonLasts 9 = .ok (.getfield 371, 3) := sorry
theorem dX1_ribbonLasts_12 : decode cX1_ribbonLasts 12 = .ok (.aload_n 0, 1) := sorry
theorem dX1_ribbonLasts_13 : decode cX1_ribbonLasts 13 = .ok (.getfield 43, 3) := sorry
theorem dX1_ribbonLasts_16 : decode cX1_ribbonLasts 16 = .ok (.getfield 374, 3) := sorry
theorem dX1_ribbonLasts_19 : decode cX1_ribbonLasts 19 = .ok (.iadd, 1) := sorry
theorem dX1_ribbonLasts_20 : decode cX1_ribbonLasts 20 = .ok (.aload_n 0, 1) := sorry
theorem dX1_ribbonLasts_21 : decode cX1_ribbonLasts 21 = .ok (.getfield 59, 3) := sorry
theorem dX1_ribbonLasts_24 : decode cX1_ribbonLasts 24 = .ok (.getfield 229, 3) := sorry
theorem dX1_ribbonLasts_27 : decode cX1_ribbonLasts 27 = .ok (.invokestatic 238, 3) := sorry
theorem dX1_ribbonLasts_30 : decode cX1_ribbonLasts 30 = .ok (.aload_n 0, 1) := sorry
theorem dX1_ribbonLasts_31 : decode cX1_ribbonLasts 31 = .ok (.getfield 43, 3) := sorry
theorem dX1_ribbonLasts_34 : decode cX1_ribbonLasts 34 = .ok (.getfield 371, 3) := sorry
theorem dX1_ribbonLasts_37 : decode cX1_ribbonLasts 37 = .ok (.isub, 1) := sorry
theorem dX1_ribbonLasts_38 : decode cX1_ribbonLasts 38 = .ok (.invokestatic 257, 3) := sorry
theorem dX1_ribbonLasts_41 : decode cX1_ribbonLasts 41 = .ok (.istore_n 1, 1) := sorry
theorem dX1_ribbonLasts_42 : decode cX1_ribbonLasts 42 = .ok (.iload_n 1, 1) := sorry
theorem dX1_ribbonLasts_43 : decode cX1_ribbonLasts 43 = .ok (.ifCond .ne 9, 3) := sorry
theorem dX1_ribbonLasts_46 : decode cX1_ribbonLasts 46 = .ok (.sipush 999, 3) := sorry
theorem dX1_ribbonLasts_49 : decode cX1_ribbonLasts 49 = .ok (.goto 12, 3) := sorry
theorem dX1_ribbonLasts_52 : decode cX1_ribbonLasts 52 = .ok (.aload_n 0, 1) := sorry
theorem dX1_ribbonLasts_53 : decode cX1_ribbonLasts 53 = .ok (.getfield 59, 3) := sorry
theorem dX1_ribbonLasts_56 : decode cX1_ribbonLasts 56 = .ok (.getfield 187, 3) := sorry
theorem dX1_ribbonLasts_59 : decode cX1_ribbonLasts 59 = .ok (.iload_n 1, 1) := sorry
theorem dX1_ribbonLasts_60 : decode cX1_ribbonLasts 60 = .ok (.idiv, 1) := sorry
theorem dX1_ribbonLasts_61 : decode cX1_ribbonLasts 61 = .ok (.ireturn, 1) := sorry
abbrev cX1_webLasts : ByteArray := prog_1_method_69_code
def yX1_webLasts : MethodName := ⟨RX1, "webLasts", "()I"⟩
def dkwX1_webLasts_2 : List UInt8 := [180, 0, 232, 79, 184, 1, 121, 108, 172]
abbrev dktX1_webLasts_2 : List UInt8 := dkwX1_webLasts_2 ++ []
def dkwX1_webLasts_1 : List UInt8 := [184, 1, 1, 5, 188, 10, 89, 3, 42, 180, 0, 59, 180, 0, 229, 79, 89, 4, 42, 180, 0, 59]
abbrev dktX1_webLasts_1 : List UInt8 := dkwX1_webLasts_1 ++ dktX1_webLasts_2
def dkwX1_webLasts_0 : List UInt8 := [42, 182, 0, 205, 3, 42, 180, 0, 59, 180, 0, 113, 182, 0, 160, 42, 180, 0, 59, 180, 0, 208, 100]
abbrev dktX1_webLasts_0 : List UInt8 := dkwX1_webLasts_0 ++ dktX1_webLasts_1
theorem dksX1_webLasts_0 : cX1_webLasts.data.toList.drop 0 = dktX1_webLasts_0 := sorry
theorem dksX1_webLasts_1 : cX1_webLasts.data.toList.drop 23 = dktX1_webLasts_1 := sorry
theorem dksX1_webLasts_2 : cX1_webLasts.data.toList.drop 45 = dktX1_webLasts_2 := sorry
theorem dX1_webLasts_0 : decode cX1_webLasts 0 = .ok (.aload_n 0, 1) := sorry
theorem dX1_webLasts_1 : decode cX1_webLasts 1 = .ok (.invokevirtual 205, 3) := sorry
theorem dX1_webLasts_4 : decode cX1_webLasts 4 = .ok (.iconst 0, 1) := sorry
theorem dX1_webLasts_5 : decode cX1_webLasts 5 = .ok (.aload_n 0, 1) := sorry
theorem dX1_webLasts_6 : decode cX1_webLasts 6 = .ok (.getfield 59, 3) := sorry
theorem dX1_webLasts_9 : decode cX1_webLasts 9 = .ok (.getfield 113, 3) := sorry
theorem dX1_webLasts_12 : decode cX1_webLasts 12 = .ok (.invokevirtual 160, 3) := sorry
theorem dX1_webLasts_15 : decode cX1_webLasts 15 = .ok (.aload_n 0, 1) := sorry
theorem dX1_webLasts_16 : decode cX1_webLasts 16 = .ok (.getfield 59, 3) := sorry
theorem dX1_webLasts_19 : decode cX1_webLasts 19 = .ok (.getfield 208, 3) := sorry
theorem dX1_webLasts_22 : decode cX1_webLasts 22 = .ok (.isub, 1) := sorry
theorem dX1_webLasts_23 : decode cX1_webLasts 23 = .ok (.invokestatic 257, 3) := sorry
theorem dX1_webLasts_26 : decode cX1_webLasts 26 = .ok (.iconst 2, 1) := sorry
theorem dX1_webLasts_27 : decode cX1_webLasts 27 = .ok (.newarray .int, 2) := sorry
theorem dX1_webLasts_29 : decode cX1_webLasts 29 = .ok (.dup, 1) := sorry
theorem dX1_webLasts_30 : decode cX1_webLasts 30 = .ok (.iconst 0, 1) := sorry
theorem dX1_webLasts_31 : decode cX1_webLasts 31 = .ok (.aload_n 0, 1) := sorry
theorem dX1_webLasts_32 : decode cX1_webLasts 32 = .ok (.getfield 59, 3) := sorry
theorem dX1_webLasts_35 : decode cX1_webLasts 35 = .ok (.getfield 229, 3) := sorry
theorem dX1_webLasts_38 : decode cX1_webLasts 38 = .ok (.iastore, 1) := sorry
theorem dX1_webLasts_39 : decode cX1_webLasts 39 = .ok (.dup, 1) := sorry
theorem dX1_webLasts_40 : decode cX1_webLasts 40 = .ok (.iconst 1, 1) := sorry
theorem dX1_webLasts_41 : decode cX1_webLasts 41 = .ok (.aload_n 0, 1) := sorry
theorem dX1_webLasts_42 : decode cX1_webLasts 42 = .ok (.getfield 59, 3) := sorry
theorem dX1_webLasts_45 : decode cX1_webLasts 45 = .ok (.getfield 232, 3) := sorry
theorem dX1_webLasts_48 : decode cX1_webLasts 48 = .ok (.iastore, 1) := sorry
theorem dX1_webLasts_49 : decode cX1_webLasts 49 = .ok (.invokestatic 377, 3) := sorry
theorem dX1_webLasts_52 : decode cX1_webLasts 52 = .ok (.idiv, 1) := sorry
theorem dX1_webLasts_53 : decode cX1_webLasts 53 = .ok (.ireturn, 1) := sorry
abbrev cX1_sum : ByteArray := prog_1_method_6_code
def yX1_sum : MethodName := ⟨RX1, "sum", "([I)I"⟩
def dkwX1_sum_1 : List UInt8 := [21, 5, 96, 60, 132, 4, 1, 167, 255, 236, 27, 172]
abbrev dktX1_sum_1 : List UInt8 := dkwX1_sum_1 ++ []
def dkwX1_sum_0 : List UInt8 := [3, 60, 42, 77, 44, 190, 62, 3, 54, 4, 21, 4, 29, 162, 0, 20, 44, 21, 4, 46, 54, 5, 27]
abbrev dktX1_sum_0 : List UInt8 := dkwX1_sum_0 ++ dktX1_sum_1
theorem dksX1_sum_0 : cX1_sum.data.toList.drop 0 = dktX1_sum_0 := sorry
theorem dksX1_sum_1 : cX1_sum.data.toList.drop 23 = dktX1_sum_1 := sorry
theorem dX1_sum_0 : decode cX1_sum 0 = .ok (.iconst 0, 1) := sorry
theorem dX1_sum_1 : decode cX1_sum 1 = .ok (.istore_n 1, 1) := sorry
theorem dX1_sum_2 : decode cX1_sum 2 = .ok (.aload_n 0, 1) := sorry
theorem dX1_sum_3 : decode cX1_sum 3 = .ok (.astore_n 2, 1) := sorry
theorem dX1_sum_4 : decode cX1_sum 4 = .ok (.aload_n 2, 1) := sorry
theorem dX1_sum_5 : decode cX1_sum 5 = .ok (.arraylength, 1) := sorry
theorem dX1_sum_6 : decode cX1_sum 6 = .ok (.istore_n 3, 1) := sorry
theorem dX1_sum_7 : decode cX1_sum 7 = .ok (.iconst 0, 1) := sorry
theorem dX1_sum_8 : decode cX1_sum 8 = .ok (.istore 4, 2) := sorry
theorem dX1_sum_10 : decode cX1_sum 10 = .ok (.iload 4, 2) := sorry
theorem dX1_sum_12 : decode cX1_sum 12 = .ok (.iload_n 3, 1) := sorry
theorem dX1_sum_13 : decode cX1_sum 13 = .ok (.if_icmp .ge 20, 3) := sorry
theorem dX1_sum_16 : decode cX1_sum 16 = .ok (.aload_n 2, 1) := sorry
theorem dX1_sum_17 : decode cX1_sum 17 = .ok (.iload 4, 2) := sorry
theorem dX1_sum_19 : decode cX1_sum 19 = .ok (.iaload, 1) := sorry
theorem dX1_sum_20 : decode cX1_sum 20 = .ok (.istore 5, 2) := sorry
theorem dX1_sum_22 : decode cX1_sum 22 = .ok (.iload_n 1, 1) := sorry
theorem dX1_sum_23 : decode cX1_sum 23 = .ok (.iload 5, 2) := sorry
theorem dX1_sum_25 : decode cX1_sum 25 = .ok (.iadd, 1) := sorry
theorem dX1_sum_26 : decode cX1_sum 26 = .ok (.istore_n 1, 1) := sorry
theorem dX1_sum_27 : decode cX1_sum 27 = .ok (.iinc 4 1, 3) := sorry
theorem dX1_sum_30 : decode cX1_sum 30 = .ok (.goto (-20), 3) := sorry
theorem dX1_sum_33 : decode cX1_sum 33 = .ok (.iload_n 1, 1) := sorry
theorem dX1_sum_34 : decode cX1_sum 34 = .ok (.ireturn, 1) := sorry
abbrev cX1_total : ByteArray := prog_1_method_72_code
def yX1_total : MethodName := ⟨RX1, "total", "(I)I"⟩
def dkwX1_total_0 : List UInt8 := [27, 8, 184, 0, 223, 42, 180, 0, 59, 180, 1, 99, 27, 46, 172]
abbrev dktX1_total_0 : List UInt8 := dkwX1_total_0 ++ []
theorem dksX1_total_0 : cX1_total.data.toList.drop 0 = dktX1_total_0 := sorry
theorem dX1_total_0 : decode cX1_total 0 = .ok (.iload_n 1, 1) := sorry
theorem dX1_total_1 : decode cX1_total 1 = .ok (.iconst 5, 1) := sorry
theorem dX1_total_2 : decode cX1_total 2 = .ok (.invokestatic 223, 3) := sorry
theorem dX1_total_5 : decode cX1_total 5 = .ok (.aload_n 0, 1) := sorry
theorem dX1_total_6 : decode cX1_total 6 = .ok (.getfield 59, 3) := sorry
theorem dX1_total_9 : decode cX1_total 9 = .ok (.getfield 355, 3) := sorry
theorem dX1_total_12 : decode cX1_total 12 = .ok (.iload_n 1, 1) := sorry
theorem dX1_total_13 : decode cX1_total 13 = .ok (.iaload, 1) := sorry
theorem dX1_total_14 : decode cX1_total 14 = .ok (.ireturn, 1) := sorry
abbrev cX1_formatSerial : ByteArray := prog_1_method_73_code
def yX1_formatSerial : MethodName := ⟨RX1, "formatSerial", "(II)I"⟩
def dkwX1_formatSerial_8 : List UInt8 := [87, 42, 180, 0, 50, 182, 1, 142, 172]
abbrev dktX1_formatSerial_8 : List UInt8 := dkwX1_formatSerial_8 ++ []
def dkwX1_formatSerial_7 : List UInt8 := [187, 1, 64, 89, 27, 28, 183, 1, 79, 182, 1, 102, 153, 0, 13, 42, 180, 0, 50, 16, 43, 182, 1, 136]
abbrev dktX1_formatSerial_7 : List UInt8 := dkwX1_formatSerial_7 ++ dktX1_formatSerial_8
def dkwX1_formatSerial_6 : List UInt8 := [180, 1, 49, 29, 46, 4, 160, 0, 8, 16, 42, 167, 0, 5, 16, 120, 182, 1, 136, 87, 42, 180, 0, 59]
abbrev dktX1_formatSerial_6 : List UInt8 := dkwX1_formatSerial_6 ++ dktX1_formatSerial_7
def dkwX1_formatSerial_5 : List UInt8 := [182, 1, 139, 87, 42, 180, 0, 59, 180, 1, 49, 29, 46, 153, 0, 31, 42, 180, 0, 50, 42, 180, 0, 59]
abbrev dktX1_formatSerial_5 : List UInt8 := dkwX1_formatSerial_5 ++ dktX1_formatSerial_6
def dkwX1_formatSerial_4 : List UInt8 := [25, 4, 180, 1, 34, 153, 0, 22, 42, 180, 0, 50, 16, 45, 182, 1, 136, 25, 4, 28, 182, 1, 46]
abbrev dktX1_formatSerial_4 : List UInt8 := dkwX1_formatSerial_4 ++ dktX1_formatSerial_5
def dkwX1_formatSerial_3 : List UInt8 := [182, 1, 43, 178, 1, 72, 21, 5, 46, 108, 16, 10, 112, 182, 1, 139, 87, 132, 5, 255, 167, 255, 224]
abbrev dktX1_formatSerial_3 : List UInt8 := dkwX1_formatSerial_3 ++ dktX1_formatSerial_4
def dkwX1_formatSerial_2 : List UInt8 := [87, 25, 4, 180, 1, 31, 4, 100, 54, 5, 21, 5, 155, 0, 33, 42, 180, 0, 50, 25, 4, 28]
abbrev dktX1_formatSerial_2 : List UInt8 := dkwX1_formatSerial_2 ++ dktX1_formatSerial_3
def dkwX1_formatSerial_1 : List UInt8 := [180, 0, 50, 3, 182, 1, 125, 42, 180, 0, 50, 25, 4, 180, 1, 128, 182, 1, 132, 16, 32, 182, 1, 136]
abbrev dktX1_formatSerial_1 : List UInt8 := dkwX1_formatSerial_1 ++ dktX1_formatSerial_2
def dkwX1_formatSerial_0 : List UInt8 := [42, 27, 28, 182, 1, 40, 62, 42, 180, 0, 43, 180, 0, 91, 27, 182, 1, 12, 192, 1, 16, 58, 4, 42]
abbrev dktX1_formatSerial_0 : List UInt8 := dkwX1_formatSerial_0 ++ dktX1_formatSerial_1
theorem dksX1_formatSerial_0 : cX1_formatSerial.data.toList.drop 0 = dktX1_formatSerial_0 := sorry
theorem dksX1_formatSerial_1 : cX1_formatSerial.data.toList.drop 24 = dktX1_formatSerial_1 := sorry
theorem dksX1_formatSerial_2 : cX1_formatSerial.data.toList.drop 48 = dktX1_formatSerial_2 := sorry
theorem dksX1_formatSerial_3 : cX1_formatSerial.data.toList.drop 70 = dktX1_formatSerial_3 := sorry
theorem dksX1_formatSerial_4 : cX1_formatSerial.data.toList.drop 93 = dktX1_formatSerial_4 := sorry
theorem dksX1_formatSerial_5 : cX1_formatSerial.data.toList.drop 116 = dktX1_formatSerial_5 := sorry
theorem dksX1_formatSerial_6 : cX1_formatSerial.data.toList.drop 140 = dktX1_formatSerial_6 := sorry
theorem dksX1_formatSerial_7 : cX1_formatSerial.data.toList.drop 164 = dktX1_formatSerial_7 := sorry
theorem dksX1_formatSerial_8 : cX1_formatSerial.data.toList.drop 188 = dktX1_formatSerial_8 := sorry
theorem dX1_formatSerial_0 : decode cX1_formatSerial 0 = .ok (.aload_n 0, 1) := sorry
theorem dX1_formatSerial_1 : decode cX1_formatSerial 1 = .ok (.iload_n 1, 1) := sorry
theorem dX1_formatSerial_2 : decode cX1_formatSerial 2 = .ok (.iload_n 2, 1) := sorry
theorem dX1_formatSerial_3 : decode cX1_formatSerial 3 = .ok (.invokevirtual 296, 3) := sorry
theorem dX1_formatSerial_6 : decode cX1_formatSerial 6 = .ok (.istore_n 3, 1) := sorry
theorem dX1_formatSerial_7 : decode cX1_formatSerial 7 = .ok (.aload_n 0, 1) := sorry
theorem dX1_formatSerial_8 : decode cX1_formatSerial 8 = .ok (.getfield 43, 3) := sorry
theorem dX1_formatSerial_11 : decode cX1_formatSerial 11 = .ok (.getfield 91, 3) := sorry
theorem dX1_formatSerial_14 : decode cX1_formatSerial 14 = .ok (.iload_n 1, 1) := sorry
theorem dX1_formatSerial_15 : decode cX1_formatSerial 15 = .ok (.invokevirtual 268, 3) := sorry
theorem dX1_formatSerial_18 : decode cX1_formatSerial 18 = .ok (.checkcast 272, 3) := sorry
theorem dX1_formatSerial_21 : decode cX1_formatSerial 21 = .ok (.astore 4, 2) := sorry
theorem dX1_formatSerial_23 : decode cX1_formatSerial 23 = .ok (.aload_n 0, 1) := sorry
theorem dX1_formatSerial_24 : decode cX1_formatSerial 24 = .ok (.getfield 50, 3) := sorry
theorem dX1_formatSerial_27 : decode cX1_formatSerial 27 = .ok (.iconst 0, 1) := sorry
theorem dX1_formatSerial_28 : decode cX1_formatSerial 28 = .ok (.invokevirtual 381, 3) := sorry
theorem dX1_formatSerial_31 : decode cX1_formatSerial 31 = .ok (.aload_n 0, 1) := sorry
theorem dX1_formatSerial_32 : decode cX1_formatSerial 32 = .ok (.getfield 50, 3) := sorry
theorem dX1_formatSerial_35 : decode cX1_formatSerial 35 = .ok (.aload 4, 2) := sorry
theorem dX1_formatSerial_37 : decode cX1_formatSerial 37 = .ok (.getfield 384, 3) := sorry
theorem dX1_formatSerial_40 : decode cX1_formatSerial 40 = .ok (.invokevirtual 388, 3) := sorry
theorem dX1_formatSerial_43 : decode cX1_formatSerial 43 = .ok (.bipush 32, 2) := sorry
theorem dX1_formatSerial_45 : decode cX1_formatSerial 45 = .ok (.invokevirtual 392, 3) := sorry
theorem dX1_formatSerial_48 : decode cX1_formatSerial 48 = .ok (.pop, 1) := sorry
theorem dX1_formatSerial_49 : decode cX1_formatSerial 49 = .ok (.aload 4, 2) := sorry
theorem dX1_formatSerial_51 : decode cX1_formatSerial 51 = .ok (.getfield 287, 3) := sorry
theorem dX1_formatSerial_54 : decode cX1_formatSerial 54 = .ok (.iconst 1, 1) := sorry
theorem dX1_formatSerial_55 : decode cX1_formatSerial 55 = .ok (.isub, 1) := sorry
theorem dX1_formatSerial_56 : decode cX1_formatSerial 56 = .ok (.istore 5, 2) := sorry
theorem dX1_formatSerial_58 : decode cX1_formatSerial 58 = .ok (.iload 5, 2) := sorry
theorem dX1_formatSerial_60 : decode cX1_formatSerial 60 = .ok (.ifCond .lt 33, 3) := sorry
theorem dX1_formatSerial_63 : decode cX1_formatSerial 63 = .ok (.aload_n 0, 1) := sorry
theorem dX1_formatSerial_64 : decode cX1_formatSerial 64 = .ok (.getfield 50, 3) := sorry
theorem dX1_formatSerial_67 : decode cX1_formatSerial 67 = .ok (.aload 4, 2) := sorry
theorem dX1_formatSerial_69 : decode cX1_formatSerial 69 = .ok (.iload_n 2, 1) := sorry
theorem dX1_formatSerial_70 : decode cX1_formatSerial 70 = .ok (.invokevirtual 299, 3) := sorry
theorem dX1_formatSerial_73 : decode cX1_formatSerial 73 = .ok (.getstatic 328, 3) := sorry
theorem dX1_formatSerial_76 : decode cX1_formatSerial 76 = .ok (.iload 5, 2) := sorry
theorem dX1_formatSerial_78 : decode cX1_formatSerial 78 = .ok (.iaload, 1) := sorry
theorem dX1_formatSerial_79 : decode cX1_formatSerial 79 = .ok (.idiv, 1) := sorry
theorem dX1_formatSerial_80 : decode cX1_formatSerial 80 = .ok (.bipush 10, 2) := sorry
theorem dX1_formatSerial_82 : decode cX1_formatSerial 82 = .ok (.irem, 1) := sorry
theorem dX1_formatSerial_83 : decode cX1_formatSerial 83 = .ok (.invokevirtual 395, 3) := sorry
theorem dX1_formatSerial_86 : decode cX1_formatSerial 86 = .ok (.pop, 1) := sorry
theorem dX1_formatSerial_87 : decode cX1_formatSerial 87 = .ok (.iinc 5 (-1), 3) := sorry
theorem dX1_formatSerial_90 : decode cX1_formatSerial 90 = .ok (.goto (-32), 3) := sorry
theorem dX1_formatSerial_93 : decode cX1_formatSerial 93 = .ok (.aload 4, 2) := sorry
theorem dX1_formatSerial_95 : decode cX1_formatSerial 95 = .ok (.getfield 290, 3) := sorry
theorem dX1_formatSerial_98 : decode cX1_formatSerial 98 = .ok (.ifCond .eq 22, 3) := sorry
theorem dX1_formatSerial_101 : decode cX1_formatSerial 101 = .ok (.aload_n 0, 1) := sorry
theorem dX1_formatSerial_102 : decode cX1_formatSerial 102 = .ok (.getfield 50, 3) := sorry
theorem dX1_formatSerial_105 : decode cX1_formatSerial 105 = .ok (.bipush 45, 2) := sorry
theorem dX1_formatSerial_107 : decode cX1_formatSerial 107 = .ok (.invokevirtual 392, 3) := sorry
theorem dX1_formatSerial_110 : decode cX1_formatSerial 110 = .ok (.aload 4, 2) := sorry
theorem dX1_formatSerial_112 : decode cX1_formatSerial 112 = .ok (.iload_n 2, 1) := sorry
theorem dX1_formatSerial_113 : decode cX1_formatSerial 113 = .ok (.invokevirtual 302, 3) := sorry
theorem dX1_formatSerial_116 : decode cX1_formatSerial 116 = .ok (.invokevirtual 395, 3) := sorry
theorem dX1_formatSerial_119 : decode cX1_formatSerial 119 = .ok (.pop, 1) := sorry
theorem dX1_formatSerial_120 : decode cX1_formatSerial 120 = .ok (.aload_n 0, 1) := sorry
theorem dX1_formatSerial_121 : decode cX1_formatSerial 121 = .ok (.getfield 59, 3) := sorry
theorem dX1_formatSerial_124 : decode cX1_formatSerial 124 = .ok (.getfield 305, 3) := sorry
theorem dX1_formatSerial_127 : decode cX1_formatSerial 127 = .ok (.iload_n 3, 1) := sorry
theorem dX1_formatSerial_128 : decode cX1_formatSerial 128 = .ok (.iaload, 1) := sorry
theorem dX1_formatSerial_129 : decode cX1_formatSerial 129 = .ok (.ifCond .eq 31, 3) := sorry
theorem dX1_formatSerial_132 : decode cX1_formatSerial 132 = .ok (.aload_n 0, 1) := sorry
theorem dX1_formatSerial_133 : decode cX1_formatSerial 133 = .ok (.getfield 50, 3) := sorry
theorem dX1_formatSerial_136 : decode cX1_formatSerial 136 = .ok (.aload_n 0, 1) := sorry
theorem dX1_formatSerial_137 : decode cX1_formatSerial 137 = .ok (.getfield 59, 3) := sorry
theorem dX1_formatSerial_140 : decode cX1_formatSerial 140 = .ok (.getfield 305, 3) := sorry
theorem dX1_formatSerial_143 : decode cX1_formatSerial 143 = .ok (.iload_n 3, 1) := sorry
theorem dX1_formatSerial_144 : decode cX1_formatSerial 144 = .ok (.iaload, 1) := sorry
theorem dX1_formatSerial_145 : decode cX1_formatSerial 145 = .ok (.iconst 1, 1) := sorry
theorem dX1_formatSerial_146 : decode cX1_formatSerial 146 = .ok (.if_icmp .ne 8, 3) := sorry
theorem dX1_formatSerial_149 : decode cX1_formatSerial 149 = .ok (.bipush 42, 2) := sorry
theorem dX1_formatSerial_151 : decode cX1_formatSerial 151 = .ok (.goto 5, 3) := sorry
theorem dX1_formatSerial_154 : decode cX1_formatSerial 154 = .ok (.bipush 120, 2) := sorry
theorem dX1_formatSerial_156 : decode cX1_formatSerial 156 = .ok (.invokevirtual 392, 3) := sorry
theorem dX1_formatSerial_159 : decode cX1_formatSerial 159 = .ok (.pop, 1) := sorry
theorem dX1_formatSerial_160 : decode cX1_formatSerial 160 = .ok (.aload_n 0, 1) := sorry
theorem dX1_formatSerial_161 : decode cX1_formatSerial 161 = .ok (.getfield 59, 3) := sorry
theorem dX1_formatSerial_164 : decode cX1_formatSerial 164 = .ok (.new 320, 3) := sorry
theorem dX1_formatSerial_167 : decode cX1_formatSerial 167 = .ok (.dup, 1) := sorry
theorem dX1_formatSerial_168 : decode cX1_formatSerial 168 = .ok (.iload_n 1, 1) := sorry
theorem dX1_formatSerial_169 : decode cX1_formatSerial 169 = .ok (.iload_n 2, 1) := sorry
theorem dX1_formatSerial_170 : decode cX1_formatSerial 170 = .ok (.invokespecial 335, 3) := sorry
theorem dX1_formatSerial_173 : decode cX1_formatSerial 173 = .ok (.invokevirtual 358, 3) := sorry
theorem dX1_formatSerial_176 : decode cX1_formatSerial 176 = .ok (.ifCond .eq 13, 3) := sorry
theorem dX1_formatSerial_179 : decode cX1_formatSerial 179 = .ok (.aload_n 0, 1) := sorry
theorem dX1_formatSerial_180 : decode cX1_formatSerial 180 = .ok (.getfield 50, 3) := sorry
theorem dX1_formatSerial_183 : decode cX1_formatSerial 183 = .ok (.bipush 43, 2) := sorry
theorem dX1_formatSerial_185 : decode cX1_formatSerial 185 = .ok (.invokevirtual 392, 3) := sorry
theorem dX1_formatSerial_188 : decode cX1_formatSerial 188 = .ok (.pop, 1) := sorry
theorem dX1_formatSerial_189 : decode cX1_formatSerial 189 = .ok (.aload_n 0, 1) := sorry
theorem dX1_formatSerial_190 : decode cX1_formatSerial 190 = .ok (.getfield 50, 3) := sorry
theorem dX1_formatSerial_193 : decode cX1_formatSerial 193 = .ok (.invokevirtual 398, 3) := sorry
theorem dX1_formatSerial_196 : decode cX1_formatSerial 196 = .ok (.ireturn, 1) := sorry
abbrev cX1_formatBatch : ByteArray := prog_1_method_74_code
def yX1_formatBatch : MethodName := ⟨RX1, "formatBatch", "(I)I"⟩
def dkwX1_formatBatch_5 : List UInt8 := [16, 43, 182, 1, 136, 87, 132, 3, 1, 167, 255, 165, 42, 180, 0, 50, 182, 1, 142, 172]
abbrev dktX1_formatBatch_5 : List UInt8 := dkwX1_formatBatch_5 ++ []
def dkwX1_formatBatch_4 : List UInt8 := [187, 1, 64, 89, 16, 100, 27, 104, 29, 96, 183, 1, 144, 182, 1, 102, 153, 0, 13, 42, 180, 0, 50]
abbrev dktX1_formatBatch_4 : List UInt8 := dkwX1_formatBatch_4 ++ dktX1_formatBatch_5
def dkwX1_formatBatch_3 : List UInt8 := [167, 0, 16, 21, 4, 4, 160, 0, 8, 16, 42, 167, 0, 5, 16, 120, 182, 1, 136, 87, 42, 180, 0, 59]
abbrev dktX1_formatBatch_3 : List UInt8 := dkwX1_formatBatch_3 ++ dktX1_formatBatch_4
def dkwX1_formatBatch_2 : List UInt8 := [180, 1, 49, 16, 40, 27, 104, 29, 96, 46, 54, 4, 42, 180, 0, 50, 21, 4, 154, 0, 8, 16, 46]
abbrev dktX1_formatBatch_2 : List UInt8 := dkwX1_formatBatch_2 ++ dktX1_formatBatch_3
def dkwX1_formatBatch_1 : List UInt8 := [182, 1, 132, 16, 32, 182, 1, 136, 87, 3, 62, 29, 44, 180, 1, 22, 162, 0, 89, 42, 180, 0, 59]
abbrev dktX1_formatBatch_1 : List UInt8 := dkwX1_formatBatch_1 ++ dktX1_formatBatch_2
def dkwX1_formatBatch_0 : List UInt8 := [42, 27, 182, 1, 18, 77, 42, 180, 0, 50, 3, 182, 1, 125, 42, 180, 0, 50, 44, 180, 1, 128]
abbrev dktX1_formatBatch_0 : List UInt8 := dkwX1_formatBatch_0 ++ dktX1_formatBatch_1
theorem dksX1_formatBatch_0 : cX1_formatBatch.data.toList.drop 0 = dktX1_formatBatch_0 := sorry
theorem dksX1_formatBatch_1 : cX1_formatBatch.data.toList.drop 22 = dktX1_formatBatch_1 := sorry
theorem dksX1_formatBatch_2 : cX1_formatBatch.data.toList.drop 45 = dktX1_formatBatch_2 := sorry
theorem dksX1_formatBatch_3 : cX1_formatBatch.data.toList.drop 68 = dktX1_formatBatch_3 := sorry
theorem dksX1_formatBatch_4 : cX1_formatBatch.data.toList.drop 92 = dktX1_formatBatch_4 := sorry
theorem dksX1_formatBatch_5 : cX1_formatBatch.data.toList.drop 115 = dktX1_formatBatch_5 := sorry
theorem dX1_formatBatch_0 : decode cX1_formatBatch 0 = .ok (.aload_n 0, 1) := sorry
theorem dX1_formatBatch_1 : decode cX1_formatBatch 1 = .ok (.iload_n 1, 1) := sorry
theorem dX1_formatBatch_2 : decode cX1_formatBatch 2 = .ok (.invokevirtual 274, 3) := sorry
theorem dX1_formatBatch_5 : decode cX1_formatBatch 5 = .ok (.astore_n 2, 1) := sorry
theorem dX1_formatBatch_6 : decode cX1_formatBatch 6 = .ok (.aload_n 0, 1) := sorry
theorem dX1_formatBatch_7 : decode cX1_formatBatch 7 = .ok (.getfield 50, 3) := sorry
theorem dX1_formatBatch_10 : decode cX1_formatBatch 10 = .ok (.iconst 0, 1) := sorry
theorem dX1_formatBatch_11 : decode cX1_formatBatch 11 = .ok (.invokevirtual 381, 3) := sorry
theorem dX1_formatBatch_14 : decode cX1_formatBatch 14 = .ok (.aload_n 0, 1) := sorry
theorem dX1_formatBatch_15 : decode cX1_formatBatch 15 = .ok (.getfield 50, 3) := sorry
theorem dX1_formatBatch_18 : decode cX1_formatBatch 18 = .ok (.aload_n 2, 1) := sorry
theorem dX1_formatBatch_19 : decode cX1_formatBatch 19 = .ok (.getfield 384, 3) := sorry
theorem dX1_formatBatch_22 : decode cX1_formatBatch 22 = .ok (.invokevirtual 388, 3) := sorry
theorem dX1_formatBatch_25 : decode cX1_formatBatch 25 = .ok (.bipush 32, 2) := sorry
theorem dX1_formatBatch_27 : decode cX1_formatBatch 27 = .ok (.invokevirtual 392, 3) := sorry
theorem dX1_formatBatch_30 : decode cX1_formatBatch 30 = .ok (.pop, 1) := sorry
theorem dX1_formatBatch_31 : decode cX1_formatBatch 31 = .ok (.iconst 0, 1) := sorry
theorem dX1_formatBatch_32 : decode cX1_formatBatch 32 = .ok (.istore_n 3, 1) := sorry
theorem dX1_formatBatch_33 : decode cX1_formatBatch 33 = .ok (.iload_n 3, 1) := sorry
theorem dX1_formatBatch_34 : decode cX1_formatBatch 34 = .ok (.aload_n 2, 1) := sorry
theorem dX1_formatBatch_35 : decode cX1_formatBatch 35 = .ok (.getfield 278, 3) := sorry
theorem dX1_formatBatch_38 : decode cX1_formatBatch 38 = .ok (.if_icmp .ge 89, 3) := sorry
theorem dX1_formatBatch_41 : decode cX1_formatBatch 41 = .ok (.aload_n 0, 1) := sorry
theorem dX1_formatBatch_42 : decode cX1_formatBatch 42 = .ok (.getfield 59, 3) := sorry
theorem dX1_formatBatch_45 : decode cX1_formatBatch 45 = .ok (.getfield 305, 3) := sorry
theorem dX1_formatBatch_48 : decode cX1_formatBatch 48 = .ok (.bipush 40, 2) := sorry
theorem dX1_formatBatch_50 : decode cX1_formatBatch 50 = .ok (.iload_n 1, 1) := sorry
theorem dX1_formatBatch_51 : decode cX1_formatBatch 51 = .ok (.imul, 1) := sorry
theorem dX1_formatBatch_52 : decode cX1_formatBatch 52 = .ok (.iload_n 3, 1) := sorry
theorem dX1_formatBatch_53 : decode cX1_formatBatch 53 = .ok (.iadd, 1) := sorry
theorem dX1_formatBatch_54 : decode cX1_formatBatch 54 = .ok (.iaload, 1) := sorry
theorem dX1_formatBatch_55 : decode cX1_formatBatch 55 = .ok (.istore 4, 2) := sorry
theorem dX1_formatBatch_57 : decode cX1_formatBatch 57 = .ok (.aload_n 0, 1) := sorry
theorem dX1_formatBatch_58 : decode cX1_formatBatch 58 = .ok (.getfield 50, 3) := sorry
theorem dX1_formatBatch_61 : decode cX1_formatBatch 61 = .ok (.iload 4, 2) := sorry
theorem dX1_formatBatch_63 : decode cX1_formatBatch 63 = .ok (.ifCond .ne 8, 3) := sorry
theorem dX1_formatBatch_66 : decode cX1_formatBatch 66 = .ok (.bipush 46, 2) := sorry
theorem dX1_formatBatch_68 : decode cX1_formatBatch 68 = .ok (.goto 16, 3) := sorry
theorem dX1_formatBatch_71 : decode cX1_formatBatch 71 = .ok (.iload 4, 2) := sorry
theorem dX1_formatBatch_73 : decode cX1_formatBatch 73 = .ok (.iconst 1, 1) := sorry
theorem dX1_formatBatch_74 : decode cX1_formatBatch 74 = .ok (.if_icmp .ne 8, 3) := sorry
theorem dX1_formatBatch_77 : decode cX1_formatBatch 77 = .ok (.bipush 42, 2) := sorry
theorem dX1_formatBatch_79 : decode cX1_formatBatch 79 = .ok (.goto 5, 3) := sorry
theorem dX1_formatBatch_82 : decode cX1_formatBatch 82 = .ok (.bipush 120, 2) := sorry
theorem dX1_formatBatch_84 : decode cX1_formatBatch 84 = .ok (.invokevirtual 392, 3) := sorry
theorem dX1_formatBatch_87 : decode cX1_formatBatch 87 = .ok (.pop, 1) := sorry
theorem dX1_formatBatch_88 : decode cX1_formatBatch 88 = .ok (.aload_n 0, 1) := sorry
theorem dX1_formatBatch_89 : decode cX1_formatBatch 89 = .ok (.getfield 59, 3) := sorry
theorem dX1_formatBatch_92 : decode cX1_formatBatch 92 = .ok (.new 320, 3) := sorry
theorem dX1_formatBatch_95 : decode cX1_formatBatch 95 = .ok (.dup, 1) := sorry
theorem dX1_formatBatch_96 : decode cX1_formatBatch 96 = .ok (.bipush 100, 2) := sorry
theorem dX1_formatBatch_98 : decode cX1_formatBatch 98 = .ok (.iload_n 1, 1) := sorry
theorem dX1_formatBatch_99 : decode cX1_formatBatch 99 = .ok (.imul, 1) := sorry
theorem dX1_formatBatch_100 : decode cX1_formatBatch 100 = .ok (.iload_n 3, 1) := sorry
theorem dX1_formatBatch_101 : decode cX1_formatBatch 101 = .ok (.iadd, 1) := sorry
theorem dX1_formatBatch_102 : decode cX1_formatBatch 102 = .ok (.invokespecial 400, 3) := sorry
theorem dX1_formatBatch_105 : decode cX1_formatBatch 105 = .ok (.invokevirtual 358, 3) := sorry
theorem dX1_formatBatch_108 : decode cX1_formatBatch 108 = .ok (.ifCond .eq 13, 3) := sorry
theorem dX1_formatBatch_111 : decode cX1_formatBatch 111 = .ok (.aload_n 0, 1) := sorry
theorem dX1_formatBatch_112 : decode cX1_formatBatch 112 = .ok (.getfield 50, 3) := sorry
theorem dX1_formatBatch_115 : decode cX1_formatBatch 115 = .ok (.bipush 43, 2) := sorry
theorem dX1_formatBatch_117 : decode cX1_formatBatch 117 = .ok (.invokevirtual 392, 3) := sorry
theorem dX1_formatBatch_120 : decode cX1_formatBatch 120 = .ok (.pop, 1) := sorry
theorem dX1_formatBatch_121 : decode cX1_formatBatch 121 = .ok (.iinc 3 1, 3) := sorry
theorem dX1_formatBatch_124 : decode cX1_formatBatch 124 = .ok (.goto (-91), 3) := sorry
theorem dX1_formatBatch_127 : decode cX1_formatBatch 127 = .ok (.aload_n 0, 1) := sorry
theorem dX1_formatBatch_128 : decode cX1_formatBatch 128 = .ok (.getfield 50, 3) := sorry
theorem dX1_formatBatch_131 : decode cX1_formatBatch 131 = .ok (.invokevirtual 398, 3) := sorry
theorem dX1_formatBatch_134 : decode cX1_formatBatch 134 = .ok (.ireturn, 1) := sorry
theorem q84 : (Jvm.Cond.initialized "LabelDriver") ∈ lw_all := sorry
theorem q128 : (Jvm.Cond.instantiable "LabelDriver" (8 : Nat)) ∈ lw_all := sorry
theorem q130 : (Jvm.Cond.instanceMethod ({ cls := "LabelDriver", name := "<init>", desc := "()V" } : Jvm.MethodName)) ∈ lw_all := sorry
theorem q131 : (Jvm.Cond.code ({ cls := "LabelDriver", name := "<init>", desc := "()V" } : Jvm.MethodName) prog_1_method_7_code (1 : Nat) (Option.none : Option Jvm.ClassFile.FieldType)) ∈ lw_all := sorry
theorem q132 : (Jvm.Cond.methodLink "LabelDriver" (22 : Nat) ({ cls := "java/lang/Object", name := "<init>", desc := "()V" } : Jvm.MethodName)) ∈ lw_all := sorry
theorem q135 : (Jvm.Cond.classLink "LabelDriver" (29 : Nat) "java/util/ArrayDeque") ∈ lw_all := sorry
theorem q137 : (Jvm.Cond.methodLink "LabelDriver" (31 : Nat) ({ cls := "java/util/ArrayDeque", name := "<init>", desc := "()V" } : Jvm.MethodName)) ∈ lw_all := sorry
theorem q159 : (Jvm.Cond.classLink "LabelDriver" (40 : Nat) "LabelDriver$Settings") ∈ lw_all := sorry
theorem q161 : (Jvm.Cond.methodLinkNest "LabelDriver" (42 : Nat) ({ cls := "LabelDriver$Settings", name := "<init>", desc := "()V" } : Jvm.MethodName) "LabelDriver") ∈ lw_tbl := sorry
theorem q512 : (Jvm.Cond.fieldLinkNest "LabelDriver" (91 : Nat) "LabelDriver$Settings" "batches" "Ljava/util/ArrayList;" "LabelDriver") ∈ lw_tbl := sorry
theorem q518 : (Jvm.Cond.fieldLinkNest "LabelDriver" (151 : Nat) "LabelDriver$Settings" "sensor" "I" "LabelDriver") ∈ lw_tbl := sorry
theorem q527 : (Jvm.Cond.fieldLinkNest "LabelDriver" (371 : Nat) "LabelDriver$Settings" "top" "I" "LabelDriver") ∈ lw_tbl := sorry
theorem q531 : (Jvm.Cond.fieldLinkNest "LabelDriver" (374 : Nat) "LabelDriver$Settings" "height" "I" "LabelDriver") ∈ lw_tbl := sorry
theorem q545 : (Jvm.Cond.classLink "LabelDriver" (47 : Nat) "java/lang/StringBuilder") ∈ lw_all := sorry
theorem q546 : (Jvm.Cond.methodLink "LabelDriver" (49 : Nat) ({ cls := "java/lang/StringBuilder", name := "<init>", desc := "()V" } : Jvm.MethodName)) ∈ lw_all := sorry
theorem q547 : (Jvm.Cond.classLink "LabelDriver" (54 : Nat) "LabelDriver$State") ∈ lw_all := sorry
theorem q549 : (Jvm.Cond.methodLink "LabelDriver" (56 : Nat) ({ cls := "LabelDriver$State", name := "<init>", desc := "(LLabelDriver;)V" } : Jvm.MethodName)) ∈ lw_all := sorry
theorem q559 : (Jvm.Cond.fieldLinkNest "LabelDriver" (113 : Nat) "LabelDriver$State" "roll" "LLabelDriver$Roll;" "LabelDriver") ∈ lw_tbl := sorry
theorem q561 : (Jvm.Cond.fieldLinkNest "LabelDriver" (187 : Nat) "LabelDriver$State" "ribbon" "I" "LabelDriver") ∈ lw_tbl := sorry
theorem q563 : (Jvm.Cond.fieldLinkNest "LabelDriver" (148 : Nat) "LabelDriver$State" "position" "I" "LabelDriver") ∈ lw_tbl := sorry
theorem q565 : (Jvm.Cond.fieldLinkNest "LabelDriver" (154 : Nat) "LabelDriver$State" "seen" "I" "LabelDriver") ∈ lw_tbl := sorry
theorem q567 : (Jvm.Cond.fieldLinkNest "LabelDriver" (211 : Nat) "LabelDriver$State" "trouble" "I" "LabelDriver") ∈ lw_tbl := sorry
theorem q569 : (Jvm.Cond.fieldLinkNest "LabelDriver" (352 : Nat) "LabelDriver$State" "cause" "I" "LabelDriver") ∈ lw_tbl := sorry
theorem q571 : (Jvm.Cond.fieldLinkNest "LabelDriver" (157 : Nat) "LabelDriver$State" "shift" "I" "LabelDriver") ∈ lw_tbl := sorry
theorem q573 : (Jvm.Cond.fieldLinkNest "LabelDriver" (346 : Nat) "LabelDriver$State" "logged" "I" "LabelDriver") ∈ lw_tbl := sorry
theorem q575 : (Jvm.Cond.fieldLinkNest "LabelDriver" (349 : Nat) "LabelDriver$State" "log" "[I" "LabelDriver") ∈ lw_tbl := sorry
theorem q577 : (Jvm.Cond.fieldLinkNest "LabelDriver" (121 : Nat) "LabelDriver$State" "isReady" "Z" "LabelDriver") ∈ lw_tbl := sorry
theorem q579 : (Jvm.Cond.fieldLinkNest "LabelDriver" (235 : Nat) "LabelDriver$State" "gapsAreLight" "Z" "LabelDriver") ∈ lw_tbl := sorry
theorem q581 : (Jvm.Cond.fieldLinkNest "LabelDriver" (226 : Nat) "LabelDriver$State" "threshold" "I" "LabelDriver") ∈ lw_tbl := sorry
theorem q583 : (Jvm.Cond.fieldLinkNest "LabelDriver" (229 : Nat) "LabelDriver$State" "label" "I" "LabelDriver") ∈ lw_tbl := sorry
theorem q585 : (Jvm.Cond.fieldLinkNest "LabelDriver" (232 : Nat) "LabelDriver$State" "gap" "I" "LabelDriver") ∈ lw_tbl := sorry
theorem q587 : (Jvm.Cond.fieldLinkNest "LabelDriver" (208 : Nat) "LabelDriver$State" "form" "I" "LabelDriver") ∈ lw_tbl := sorry
theorem q589 : (Jvm.Cond.fieldLinkNest "LabelDriver" (305 : Nat) "LabelDriver$State" "state" "[I" "LabelDriver") ∈ lw_tbl := sorry
theorem q591 : (Jvm.Cond.fieldLinkNest "LabelDriver" (307 : Nat) "LabelDriver$State" "attempts" "[I" "LabelDriver") ∈ lw_tbl := sorry
theorem q593 : (Jvm.Cond.fieldLinkNest "LabelDriver" (355 : Nat) "LabelDriver$State" "totals" "[I" "LabelDriver") ∈ lw_tbl := sorry
theorem q595 : (Jvm.Cond.fieldLinkNest "LabelDriver" (313 : Nat) "LabelDriver$State" "list" "Ljava/util/ArrayDeque;" "LabelDriver") ∈ lw_tbl := sorry
theorem q640 : (Jvm.Cond.fieldLink "LabelDriver" (25 : Nat) "LabelDriver" "tape" "[B") ∈ lw_all := sorry
theorem q641 : (Jvm.Cond.fieldLink "LabelDriver" (63 : Nat) "LabelDriver" "taped" "I") ∈ lw_all := sorry
theorem q642 : (Jvm.Cond.fieldLink "LabelDriver" (36 : Nat) "LabelDriver" "errorOffset" "I") ∈ lw_all := sorry
theorem q643 : (Jvm.Cond.fieldLink "LabelDriver" (82 : Nat) "LabelDriver" "errorKind" "I") ∈ lw_all := sorry
theorem q645 : (Jvm.Cond.fieldLink "LabelDriver" (43 : Nat) "LabelDriver" "settings" "LLabelDriver$Settings;") ∈ lw_all := sorry
theorem q646 : (Jvm.Cond.fieldLink "LabelDriver" (59 : Nat) "LabelDriver" "state" "LLabelDriver$State;") ∈ lw_all := sorry
theorem q647 : (Jvm.Cond.fieldLink "LabelDriver" (32 : Nat) "LabelDriver" "past" "Ljava/util/ArrayDeque;") ∈ lw_all := sorry
theorem q648 : (Jvm.Cond.fieldLink "LabelDriver" (50 : Nat) "LabelDriver" "formatted" "Ljava/lang/StringBuilder;") ∈ lw_all := sorry
theorem q649 : (Jvm.Cond.laysFinal "LabelDriver" "LabelDriver" "tape" "[B") ∈ lw_all := sorry
theorem q650 : (Jvm.Cond.soleField "LabelDriver" "tape") ∈ lw_all := sorry
theorem q651 : (Jvm.Cond.lays "LabelDriver" "LabelDriver" "taped" "I") ∈ lw_all := sorry
theorem q652 : (Jvm.Cond.soleField "LabelDriver" "taped") ∈ lw_all := sorry
theorem q653 : (Jvm.Cond.lays "LabelDriver" "LabelDriver" "errorOffset" "I") ∈ lw_all := sorry
theorem q654 : (Jvm.Cond.soleField "LabelDriver" "errorOffset") ∈ lw_all := sorry
theorem q655 : (Jvm.Cond.lays "LabelDriver" "LabelDriver" "errorKind" "I") ∈ lw_all := sorry
theorem q656 : (Jvm.Cond.soleField "LabelDriver" "errorKind") ∈ lw_all := sorry
theorem q657 : (Jvm.Cond.lays "LabelDriver" "LabelDriver" "settings" "LLabelDriver$Settings;") ∈ lw_all := sorry
theorem q658 : (Jvm.Cond.soleField "LabelDriver" "settings") ∈ lw_all := sorry
theorem q659 : (Jvm.Cond.lays "LabelDriver" "LabelDriver" "state" "LLabelDriver$State;") ∈ lw_all := sorry
theorem q660 : (Jvm.Cond.soleField "LabelDriver" "state") ∈ lw_all := sorry
theorem q661 : (Jvm.Cond.laysFinal "LabelDriver" "LabelDriver" "past" "Ljava/util/ArrayDeque;") ∈ lw_all := sorry
theorem q662 : (Jvm.Cond.soleField "LabelDriver" "past") ∈ lw_all := sorry
theorem q663 : (Jvm.Cond.laysFinal "LabelDriver" "LabelDriver" "formatted" "Ljava/lang/StringBuilder;") ∈ lw_all := sorry
theorem q664 : (Jvm.Cond.soleField "LabelDriver" "formatted") ∈ lw_all := sorry
theorem q665 : (Jvm.Cond.superclass "LabelDriver" "java/lang/Object") ∈ lw_all := sorry
theorem q667 : (Jvm.Cond.instanceMethod ({ cls := "LabelDriver", name := "append", desc := "(IIIII)I" } : Jvm.MethodName)) ∈ lw_all := sorry
theorem q668 : (Jvm.Cond.selects "LabelDriver" ({ cls := "LabelDriver", name := "append", desc := "(IIIII)I" } : Jvm.MethodName) ({ cls := "LabelDriver", name := "append", desc := "(IIIII)I" } : Jvm.MethodName)) ∈ lw_all := sorry
theorem q669 : (Jvm.Cond.code ({ cls := "LabelDriver", name := "append", desc := "(IIIII)I" } : Jvm.MethodName) prog_1_method_8_code (8 : Nat) (Option.some Jvm.ClassFile.FieldType.int)) ∈ lw_all := sorry
theorem q671 : (Jvm.Cond.instanceMethod ({ cls := "LabelDriver", name := "truncate", desc := "(I)Z" } : Jvm.MethodName)) ∈ lw_all := sorry
theorem q672 : (Jvm.Cond.selects "LabelDriver" ({ cls := "LabelDriver", name := "truncate", desc := "(I)Z" } : Jvm.MethodName) ({ cls := "LabelDriver", name := "truncate", desc := "(I)Z" } : Jvm.MethodName)) ∈ lw_all := sorry
theorem q673 : (Jvm.Cond.code ({ cls := "LabelDriver", name := "truncate", desc := "(I)Z" } : Jvm.MethodName) prog_1_method_9_code (2 : Nat) (Option.some Jvm.ClassFile.FieldType.boolean)) ∈ lw_all := sorry
theorem q674 : (Jvm.Cond.methodLink "LabelDriver" (10 : Nat) ({ cls := "LabelDriver", name := "in", desc := "(JJJ)Z" } : Jvm.MethodName)) ∈ lw_all := sorry
theorem q675 : (Jvm.Cond.static ({ cls := "LabelDriver", name := "in", desc := "(JJJ)Z" } : Jvm.MethodName)) ∈ lw_all := sorry
theorem q676 : (Jvm.Cond.code ({ cls := "LabelDriver", name := "in", desc := "(JJJ)Z" } : Jvm.MethodName) prog_1_method_1_code (6 : Nat) (Option.some Jvm.ClassFile.FieldType.boolean)) ∈ lw_all := sorry
theorem q678 : (Jvm.Cond.instanceMethod ({ cls := "LabelDriver", name := "errorOffset", desc := "()I" } : Jvm.MethodName)) ∈ lw_all := sorry
theorem q679 : (Jvm.Cond.selects "LabelDriver" ({ cls := "LabelDriver", name := "errorOffset", desc := "()I" } : Jvm.MethodName) ({ cls := "LabelDriver", name := "errorOffset", desc := "()I" } : Jvm.MethodName)) ∈ lw_all := sorry
theorem q680 : (Jvm.Cond.code ({ cls := "LabelDriver", name := "errorOffset", desc := "()I" } : Jvm.MethodName) prog_1_method_11_code (1 : Nat) (Option.some Jvm.ClassFile.FieldType.int)) ∈ lw_all := sorry
theorem q682 : (Jvm.Cond.instanceMethod ({ cls := "LabelDriver", name := "errorKind", desc := "()I" } : Jvm.MethodName)) ∈ lw_all := sorry
theorem q683 : (Jvm.Cond.selects "LabelDriver" ({ cls := "LabelDriver", name := "errorKind", desc := "()I" } : Jvm.MethodName) ({ cls := "LabelDriver", name := "errorKind", desc := "()I" } : Jvm.MethodName)) ∈ lw_all := sorry
theorem q684 : (Jvm.Cond.code ({ cls := "LabelDriver", name := "errorKind", desc := "()I" } : Jvm.MethodName) prog_1_method_12_code (1 : Nat) (Option.some Jvm.ClassFile.FieldType.int)) ∈ lw_all := sorry
theorem q686 : (Jvm.Cond.instanceMethod ({ cls := "LabelDriver", name := "ribbonLeft", desc := "()I" } : Jvm.MethodName)) ∈ lw_all := sorry
theorem q687 : (Jvm.Cond.selects "LabelDriver" ({ cls := "LabelDriver", name := "ribbonLeft", desc := "()I" } : Jvm.MethodName) ({ cls := "LabelDriver", name := "ribbonLeft", desc := "()I" } : Jvm.MethodName)) ∈ lw_all := sorry
theorem q688 : (Jvm.Cond.code ({ cls := "LabelDriver", name := "ribbonLeft", desc := "()I" } : Jvm.MethodName) prog_1_method_19_code (1 : Nat) (Option.some Jvm.ClassFile.FieldType.int)) ∈ lw_all := sorry
theorem q690 : (Jvm.Cond.instanceMethod ({ cls := "LabelDriver", name := "isReady", desc := "()Z" } : Jvm.MethodName)) ∈ lw_all := sorry
theorem q691 : (Jvm.Cond.selects "LabelDriver" ({ cls := "LabelDriver", name := "isReady", desc := "()Z" } : Jvm.MethodName) ({ cls := "LabelDriver", name := "isReady", desc := "()Z" } : Jvm.MethodName)) ∈ lw_all := sorry
theorem q692 : (Jvm.Cond.code ({ cls := "LabelDriver", name := "isReady", desc := "()Z" } : Jvm.MethodName) prog_1_method_28_code (1 : Nat) (Option.some Jvm.ClassFile.FieldType.boolean)) ∈ lw_all := sorry
theorem q694 : (Jvm.Cond.instanceMethod ({ cls := "LabelDriver", name := "lastShift", desc := "()I" } : Jvm.MethodName)) ∈ lw_all := sorry
theorem q695 : (Jvm.Cond.selects "LabelDriver" ({ cls := "LabelDriver", name := "lastShift", desc := "()I" } : Jvm.MethodName) ({ cls := "LabelDriver", name := "lastShift", desc := "()I" } : Jvm.MethodName)) ∈ lw_all := sorry
theorem q696 : (Jvm.Cond.code ({ cls := "LabelDriver", name := "lastShift", desc := "()I" } : Jvm.MethodName) prog_1_method_34_code (1 : Nat) (Option.some Jvm.ClassFile.FieldType.int)) ∈ lw_all := sorry
theorem q698 : (Jvm.Cond.instanceMethod ({ cls := "LabelDriver", name := "mostAttempts", desc := "()I" } : Jvm.MethodName)) ∈ lw_all := sorry
theorem q699 : (Jvm.Cond.selects "LabelDriver" ({ cls := "LabelDriver", name := "mostAttempts", desc := "()I" } : Jvm.MethodName) ({ cls := "LabelDriver", name := "mostAttempts", desc := "()I" } : Jvm.MethodName)) ∈ lw_all := sorry
theorem q700 : (Jvm.Cond.code ({ cls := "LabelDriver", name := "mostAttempts", desc := "()I" } : Jvm.MethodName) prog_1_method_45_code (5 : Nat) (Option.some Jvm.ClassFile.FieldType.int)) ∈ lw_all := sorry
theorem q701 : (Jvm.Cond.methodLink "LabelDriver" (95 : Nat) ({ cls := "java/util/ArrayList", name := "size", desc := "()I" } : Jvm.MethodName)) ∈ lw_all := sorry
theorem q705 : (Jvm.Cond.methodLink "LabelDriver" (268 : Nat) ({ cls := "java/util/ArrayList", name := "get", desc := "(I)Ljava/lang/Object;" } : Jvm.MethodName)) ∈ lw_all := sorry
theorem q719 : (Jvm.Cond.classLink "LabelDriver" (272 : Nat) "LabelDriver$Batch") ∈ lw_all := sorry
theorem q721 : (Jvm.Cond.instanceMethod ({ cls := "LabelDriver", name := "reprints", desc := "()I" } : Jvm.MethodName)) ∈ lw_all := sorry
theorem q722 : (Jvm.Cond.selects "LabelDriver" ({ cls := "LabelDriver", name := "reprints", desc := "()I" } : Jvm.MethodName) ({ cls := "LabelDriver", name := "reprints", desc := "()I" } : Jvm.MethodName)) ∈ lw_all := sorry
theorem q723 : (Jvm.Cond.code ({ cls := "LabelDriver", name := "reprints", desc := "()I" } : Jvm.MethodName) prog_1_method_46_code (1 : Nat) (Option.some Jvm.ClassFile.FieldType.int)) ∈ lw_all := sorry
theorem q724 : (Jvm.Cond.methodLink "LabelDriver" (101 : Nat) ({ cls := "java/util/ArrayDeque", name := "size", desc := "()I" } : Jvm.MethodName)) ∈ lw_all := sorry
theorem q732 : (Jvm.Cond.instanceMethod ({ cls := "LabelDriver", name := "reprint", desc := "(I)I" } : Jvm.MethodName)) ∈ lw_all := sorry
theorem q733 : (Jvm.Cond.selects "LabelDriver" ({ cls := "LabelDriver", name := "reprint", desc := "(I)I" } : Jvm.MethodName) ({ cls := "LabelDriver", name := "reprint", desc := "(I)I" } : Jvm.MethodName)) ∈ lw_all := sorry
theorem q734 : (Jvm.Cond.code ({ cls := "LabelDriver", name := "reprint", desc := "(I)I" } : Jvm.MethodName) prog_1_method_47_code (5 : Nat) (Option.some Jvm.ClassFile.FieldType.int)) ∈ lw_all := sorry
theorem q735 : (Jvm.Cond.methodLink "LabelDriver" (316 : Nat) ({ cls := "java/util/ArrayDeque", name := "iterator", desc := "()Ljava/util/Iterator;" } : Jvm.MethodName)) ∈ lw_all := sorry
theorem q759 : (Jvm.Cond.interfaceEntry "LabelDriver" (248 : Nat)) ∈ lw_tbl := sorry
theorem q760 : (Jvm.Cond.methodLink "LabelDriver" (248 : Nat) ({ cls := "java/util/Iterator", name := "hasNext", desc := "()Z" } : Jvm.MethodName)) ∈ lw_all := sorry
theorem q775 : (Jvm.Cond.interfaceEntry "LabelDriver" (254 : Nat)) ∈ lw_tbl := sorry
theorem q776 : (Jvm.Cond.methodLink "LabelDriver" (254 : Nat) ({ cls := "java/util/Iterator", name := "next", desc := "()Ljava/lang/Object;" } : Jvm.MethodName)) ∈ lw_all := sorry
theorem q868 : (Jvm.Cond.classLink "LabelDriver" (320 : Nat) "LabelDriver$Serial") ∈ lw_all := sorry
theorem q869 : (Jvm.Cond.methodLink "LabelDriver" (322 : Nat) ({ cls := "LabelDriver$Serial", name := "code", desc := "()I" } : Jvm.MethodName)) ∈ lw_all := sorry
theorem q874 : (Jvm.Cond.instanceMethod ({ cls := "LabelDriver", name := "nextSerial", desc := "()I" } : Jvm.MethodName)) ∈ lw_all := sorry
theorem q875 : (Jvm.Cond.selects "LabelDriver" ({ cls := "LabelDriver", name := "nextSerial", desc := "()I" } : Jvm.MethodName) ({ cls := "LabelDriver", name := "nextSerial", desc := "()I" } : Jvm.MethodName)) ∈ lw_all := sorry
theorem q876 : (Jvm.Cond.code ({ cls := "LabelDriver", name := "nextSerial", desc := "()I" } : Jvm.MethodName) prog_1_method_48_code (2 : Nat) (Option.some Jvm.ClassFile.FieldType.int)) ∈ lw_all := sorry
theorem q877 : (Jvm.Cond.methodLink "LabelDriver" (325 : Nat) ({ cls := "LabelDriver$State", name := "next", desc := "()LLabelDriver$Serial;" } : Jvm.MethodName)) ∈ lw_all := sorry
theorem q913 : (Jvm.Cond.instanceMethod ({ cls := "LabelDriver", name := "doubles", desc := "()I" } : Jvm.MethodName)) ∈ lw_all := sorry
theorem q914 : (Jvm.Cond.selects "LabelDriver" ({ cls := "LabelDriver", name := "doubles", desc := "()I" } : Jvm.MethodName) ({ cls := "LabelDriver", name := "doubles", desc := "()I" } : Jvm.MethodName)) ∈ lw_all := sorry
theorem q915 : (Jvm.Cond.code ({ cls := "LabelDriver", name := "doubles", desc := "()I" } : Jvm.MethodName) prog_1_method_53_code (5 : Nat) (Option.some Jvm.ClassFile.FieldType.int)) ∈ lw_all := sorry
theorem q916 : (Jvm.Cond.methodLink "LabelDriver" (299 : Nat) ({ cls := "LabelDriver$Batch", name := "number", desc := "(I)I" } : Jvm.MethodName)) ∈ lw_all := sorry
theorem q921 : (Jvm.Cond.laysStatic "LabelDriver" "TENS" "[I") ∈ lw_tbl := sorry
theorem q922 : (Jvm.Cond.methodLink "LabelDriver" (337 : Nat) ({ cls := "LabelDriver", name := "isElsewhere", desc := "(II)Z" } : Jvm.MethodName)) ∈ lw_all := sorry
theorem q923 : (Jvm.Cond.privateMethod ({ cls := "LabelDriver", name := "isElsewhere", desc := "(II)Z" } : Jvm.MethodName)) ∈ lw_tbl := sorry
theorem q924 : (Jvm.Cond.instanceMethod ({ cls := "LabelDriver", name := "isElsewhere", desc := "(II)Z" } : Jvm.MethodName)) ∈ lw_all := sorry
theorem q925 : (Jvm.Cond.code ({ cls := "LabelDriver", name := "isElsewhere", desc := "(II)Z" } : Jvm.MethodName) prog_1_method_52_code (6 : Nat) (Option.some Jvm.ClassFile.FieldType.boolean)) ∈ lw_all := sorry
theorem q927 : (Jvm.Cond.instanceMethod ({ cls := "LabelDriver", name := "logCount", desc := "()I" } : Jvm.MethodName)) ∈ lw_all := sorry
theorem q928 : (Jvm.Cond.selects "LabelDriver" ({ cls := "LabelDriver", name := "logCount", desc := "()I" } : Jvm.MethodName) ({ cls := "LabelDriver", name := "logCount", desc := "()I" } : Jvm.MethodName)) ∈ lw_all := sorry
theorem q929 : (Jvm.Cond.code ({ cls := "LabelDriver", name := "logCount", desc := "()I" } : Jvm.MethodName) prog_1_method_56_code (1 : Nat) (Option.some Jvm.ClassFile.FieldType.int)) ∈ lw_all := sorry
theorem q931 : (Jvm.Cond.instanceMethod ({ cls := "LabelDriver", name := "printingAt", desc := "(I)I" } : Jvm.MethodName)) ∈ lw_all := sorry
theorem q932 : (Jvm.Cond.selects "LabelDriver" ({ cls := "LabelDriver", name := "printingAt", desc := "(I)I" } : Jvm.MethodName) ({ cls := "LabelDriver", name := "printingAt", desc := "(I)I" } : Jvm.MethodName)) ∈ lw_all := sorry
theorem q933 : (Jvm.Cond.code ({ cls := "LabelDriver", name := "printingAt", desc := "(I)I" } : Jvm.MethodName) prog_1_method_58_code (3 : Nat) (Option.some Jvm.ClassFile.FieldType.int)) ∈ lw_all := sorry
theorem q935 : (Jvm.Cond.instanceMethod ({ cls := "LabelDriver", name := "longestRow", desc := "()I" } : Jvm.MethodName)) ∈ lw_all := sorry
theorem q936 : (Jvm.Cond.selects "LabelDriver" ({ cls := "LabelDriver", name := "longestRow", desc := "()I" } : Jvm.MethodName) ({ cls := "LabelDriver", name := "longestRow", desc := "()I" } : Jvm.MethodName)) ∈ lw_all := sorry
theorem q937 : (Jvm.Cond.code ({ cls := "LabelDriver", name := "longestRow", desc := "()I" } : Jvm.MethodName) prog_1_method_59_code (4 : Nat) (Option.some Jvm.ClassFile.FieldType.int)) ∈ lw_all := sorry
theorem q938 : (Jvm.Cond.methodLink "LabelDriver" (257 : Nat) ({ cls := "java/lang/Math", name := "max", desc := "(II)I" } : Jvm.MethodName)) ∈ lw_all := sorry
theorem q940 : (Jvm.Cond.instanceMethod ({ cls := "LabelDriver", name := "trouble", desc := "()I" } : Jvm.MethodName)) ∈ lw_all := sorry
theorem q941 : (Jvm.Cond.selects "LabelDriver" ({ cls := "LabelDriver", name := "trouble", desc := "()I" } : Jvm.MethodName) ({ cls := "LabelDriver", name := "trouble", desc := "()I" } : Jvm.MethodName)) ∈ lw_all := sorry
theorem q942 : (Jvm.Cond.code ({ cls := "LabelDriver", name := "trouble", desc := "()I" } : Jvm.MethodName) prog_1_method_60_code (1 : Nat) (Option.some Jvm.ClassFile.FieldType.int)) ∈ lw_all := sorry
theorem q944 : (Jvm.Cond.instanceMethod ({ cls := "LabelDriver", name := "causeOfTrouble", desc := "()I" } : Jvm.MethodName)) ∈ lw_all := sorry
theorem q945 : (Jvm.Cond.selects "LabelDriver" ({ cls := "LabelDriver", name := "causeOfTrouble", desc := "()I" } : Jvm.MethodName) ({ cls := "LabelDriver", name := "causeOfTrouble", desc := "()I" } : Jvm.MethodName)) ∈ lw_all := sorry
theorem q946 : (Jvm.Cond.code ({ cls := "LabelDriver", name := "causeOfTrouble", desc := "()I" } : Jvm.MethodName) prog_1_method_61_code (1 : Nat) (Option.some Jvm.ClassFile.FieldType.int)) ∈ lw_all := sorry
theorem q948 : (Jvm.Cond.instanceMethod ({ cls := "LabelDriver", name := "undo", desc := "()I" } : Jvm.MethodName)) ∈ lw_all := sorry
theorem q949 : (Jvm.Cond.selects "LabelDriver" ({ cls := "LabelDriver", name := "undo", desc := "()I" } : Jvm.MethodName) ({ cls := "LabelDriver", name := "undo", desc := "()I" } : Jvm.MethodName)) ∈ lw_all := sorry
theorem q950 : (Jvm.Cond.code ({ cls := "LabelDriver", name := "undo", desc := "()I" } : Jvm.MethodName) prog_1_method_66_code (1 : Nat) (Option.some Jvm.ClassFile.FieldType.int)) ∈ lw_all := sorry
theorem q951 : (Jvm.Cond.methodLink "LabelDriver" (365 : Nat) ({ cls := "java/util/ArrayDeque", name := "isEmpty", desc := "()Z" } : Jvm.MethodName)) ∈ lw_all := sorry
theorem q952 : (Jvm.Cond.methodLink "LabelDriver" (368 : Nat) ({ cls := "java/util/ArrayDeque", name := "removeLast", desc := "()Ljava/lang/Object;" } : Jvm.MethodName)) ∈ lw_all := sorry
theorem q964 : (Jvm.Cond.instanceMethod ({ cls := "LabelDriver", name := "undoDepth", desc := "()I" } : Jvm.MethodName)) ∈ lw_all := sorry
theorem q965 : (Jvm.Cond.selects "LabelDriver" ({ cls := "LabelDriver", name := "undoDepth", desc := "()I" } : Jvm.MethodName) ({ cls := "LabelDriver", name := "undoDepth", desc := "()I" } : Jvm.MethodName)) ∈ lw_all := sorry
theorem q966 : (Jvm.Cond.code ({ cls := "LabelDriver", name := "undoDepth", desc := "()I" } : Jvm.MethodName) prog_1_method_67_code (1 : Nat) (Option.some Jvm.ClassFile.FieldType.int)) ∈ lw_all := sorry
theorem q968 : (Jvm.Cond.instanceMethod ({ cls := "LabelDriver", name := "toPrint", desc := "()I" } : Jvm.MethodName)) ∈ lw_all := sorry
theorem q969 : (Jvm.Cond.selects "LabelDriver" ({ cls := "LabelDriver", name := "toPrint", desc := "()I" } : Jvm.MethodName) ({ cls := "LabelDriver", name := "toPrint", desc := "()I" } : Jvm.MethodName)) ∈ lw_all := sorry
theorem q970 : (Jvm.Cond.code ({ cls := "LabelDriver", name := "toPrint", desc := "()I" } : Jvm.MethodName) prog_1_method_70_code (3 : Nat) (Option.some Jvm.ClassFile.FieldType.int)) ∈ lw_all := sorry
theorem q971 : (Jvm.Cond.methodLink "LabelDriver" (310 : Nat) ({ cls := "LabelDriver", name := "many", desc := "(II)I" } : Jvm.MethodName)) ∈ lw_all := sorry
theorem q972 : (Jvm.Cond.privateMethod ({ cls := "LabelDriver", name := "many", desc := "(II)I" } : Jvm.MethodName)) ∈ lw_tbl := sorry
theorem q973 : (Jvm.Cond.instanceMethod ({ cls := "LabelDriver", name := "many", desc := "(II)I" } : Jvm.MethodName)) ∈ lw_all := sorry
theorem q974 : (Jvm.Cond.code ({ cls := "LabelDriver", name := "many", desc := "(II)I" } : Jvm.MethodName) prog_1_method_43_code (5 : Nat) (Option.some Jvm.ClassFile.FieldType.int)) ∈ lw_all := sorry
theorem q975 : (Jvm.Cond.methodLink "LabelDriver" (274 : Nat) ({ cls := "LabelDriver", name := "batchAt", desc := "(I)LLabelDriver$Batch;" } : Jvm.MethodName)) ∈ lw_all := sorry
theorem q976 : (Jvm.Cond.privateMethod ({ cls := "LabelDriver", name := "batchAt", desc := "(I)LLabelDriver$Batch;" } : Jvm.MethodName)) ∈ lw_tbl := sorry
theorem q977 : (Jvm.Cond.instanceMethod ({ cls := "LabelDriver", name := "batchAt", desc := "(I)LLabelDriver$Batch;" } : Jvm.MethodName)) ∈ lw_all := sorry
theorem q978 : (Jvm.Cond.code ({ cls := "LabelDriver", name := "batchAt", desc := "(I)LLabelDriver$Batch;" } : Jvm.MethodName) prog_1_method_36_code (2 : Nat) (Option.some (Jvm.ClassFile.FieldType.object "LabelDriver$Batch"))) ∈ lw_all := sorry
theorem q979 : (Jvm.Cond.methodLink "LabelDriver" (169 : Nat) ({ cls := "LabelDriver", name := "checkIndex", desc := "(II)V" } : Jvm.MethodName)) ∈ lw_all := sorry
theorem q980 : (Jvm.Cond.static ({ cls := "LabelDriver", name := "checkIndex", desc := "(II)V" } : Jvm.MethodName)) ∈ lw_all := sorry
theorem q981 : (Jvm.Cond.code ({ cls := "LabelDriver", name := "checkIndex", desc := "(II)V" } : Jvm.MethodName) prog_1_method_4_code (2 : Nat) (Option.none : Option Jvm.ClassFile.FieldType)) ∈ lw_all := sorry
theorem q982 : (Jvm.Cond.classLink "LabelDriver" (16 : Nat) "java/lang/IndexOutOfBoundsException") ∈ lw_all := sorry
theorem q991 : (Jvm.Cond.methodLink "LabelDriver" (18 : Nat) ({ cls := "java/lang/IndexOutOfBoundsException", name := "<init>", desc := "()V" } : Jvm.MethodName)) ∈ lw_all := sorry
theorem q998 : (Jvm.Cond.instanceMethod ({ cls := "LabelDriver", name := "yieldPercent", desc := "()I" } : Jvm.MethodName)) ∈ lw_all := sorry
theorem q999 : (Jvm.Cond.selects "LabelDriver" ({ cls := "LabelDriver", name := "yieldPercent", desc := "()I" } : Jvm.MethodName) ({ cls := "LabelDriver", name := "yieldPercent", desc := "()I" } : Jvm.MethodName)) ∈ lw_all := sorry
theorem q1000 : (Jvm.Cond.code ({ cls := "LabelDriver", name := "yieldPercent", desc := "()I" } : Jvm.MethodName) prog_1_method_71_code (1 : Nat) (Option.some Jvm.ClassFile.FieldType.int)) ∈ lw_all := sorry
theorem q1002 : (Jvm.Cond.instanceMethod ({ cls := "LabelDriver", name := "formattedByte", desc := "(I)I" } : Jvm.MethodName)) ∈ lw_all := sorry
theorem q1003 : (Jvm.Cond.selects "LabelDriver" ({ cls := "LabelDriver", name := "formattedByte", desc := "(I)I" } : Jvm.MethodName) ({ cls := "LabelDriver", name := "formattedByte", desc := "(I)I" } : Jvm.MethodName)) ∈ lw_all := sorry
theorem q1004 : (Jvm.Cond.code ({ cls := "LabelDriver", name := "formattedByte", desc := "(I)I" } : Jvm.MethodName) prog_1_method_75_code (2 : Nat) (Option.some Jvm.ClassFile.FieldType.int)) ∈ lw_all := sorry
theorem q1005 : (Jvm.Cond.methodLink "LabelDriver" (398 : Nat) ({ cls := "java/lang/StringBuilder", name := "length", desc := "()I" } : Jvm.MethodName)) ∈ lw_all := sorry
theorem q1006 : (Jvm.Cond.methodLink "LabelDriver" (402 : Nat) ({ cls := "java/lang/StringBuilder", name := "charAt", desc := "(I)C" } : Jvm.MethodName)) ∈ lw_all := sorry
theorem q1024 : (Jvm.Cond.instanceMethod ({ cls := "LabelDriver", name := "load", desc := "()I" } : Jvm.MethodName)) ∈ lw_all := sorry
theorem q1025 : (Jvm.Cond.selects "LabelDriver" ({ cls := "LabelDriver", name := "load", desc := "()I" } : Jvm.MethodName) ({ cls := "LabelDriver", name := "load", desc := "()I" } : Jvm.MethodName)) ∈ lw_all := sorry
theorem q1026 : (Jvm.Cond.codeWith ({ cls := "LabelDriver", name := "load", desc := "()I" } : Jvm.MethodName) prog_1_method_10_code (3 : Nat) (Option.some Jvm.ClassFile.FieldType.int) [((18 : Nat), (22 : Nat), (25 : Nat), (74 : Nat))]) ∈ lw_all := sorry
theorem q1027 : (Jvm.Cond.classLink "LabelDriver" (74 : Nat) "LabelDriver$Malformed") ∈ lw_all := sorry
theorem q1028 : (Jvm.Cond.classLink "LabelDriver" (66 : Nat) "LabelDriver$Parser") ∈ lw_all := sorry
theorem q1030 : (Jvm.Cond.methodLink "LabelDriver" (68 : Nat) ({ cls := "LabelDriver$Parser", name := "<init>", desc := "(LLabelDriver;I)V" } : Jvm.MethodName)) ∈ lw_all := sorry
theorem q1037 : (Jvm.Cond.fieldLinkNest "LabelDriver" (85 : Nat) "LabelDriver$Parser" "read" "LLabelDriver$Settings;" "LabelDriver") ∈ lw_tbl := sorry
theorem q1050 : (Jvm.Cond.methodLink "LabelDriver" (71 : Nat) ({ cls := "LabelDriver$Parser", name := "parse", desc := "()V" } : Jvm.MethodName)) ∈ lw_all := sorry
theorem q1190 : (Jvm.Cond.fieldLinkNest "LabelDriver" (79 : Nat) "LabelDriver$Malformed" "kind" "I" "LabelDriver") ∈ lw_tbl := sorry
theorem q1192 : (Jvm.Cond.fieldLinkNest "LabelDriver" (76 : Nat) "LabelDriver$Malformed" "offset" "I" "LabelDriver") ∈ lw_tbl := sorry
theorem q1228 : (Jvm.Cond.fieldLinkNest "LabelDriver" (384 : Nat) "LabelDriver$Batch" "name" "Ljava/lang/String;" "LabelDriver") ∈ lw_tbl := sorry
theorem q1230 : (Jvm.Cond.fieldLinkNest "LabelDriver" (281 : Nat) "LabelDriver$Batch" "first" "I" "LabelDriver") ∈ lw_tbl := sorry
theorem q1233 : (Jvm.Cond.fieldLinkNest "LabelDriver" (278 : Nat) "LabelDriver$Batch" "count" "I" "LabelDriver") ∈ lw_tbl := sorry
theorem q1235 : (Jvm.Cond.fieldLinkNest "LabelDriver" (284 : Nat) "LabelDriver$Batch" "step" "I" "LabelDriver") ∈ lw_tbl := sorry
theorem q1237 : (Jvm.Cond.fieldLinkNest "LabelDriver" (287 : Nat) "LabelDriver$Batch" "width" "I" "LabelDriver") ∈ lw_tbl := sorry
theorem q1239 : (Jvm.Cond.fieldLinkNest "LabelDriver" (290 : Nat) "LabelDriver$Batch" "isChecked" "Z" "LabelDriver") ∈ lw_tbl := sorry
theorem q1242 : (Jvm.Cond.fieldLinkNest "LabelDriver" (293 : Nat) "LabelDriver$Batch" "isAgain" "Z" "LabelDriver") ∈ lw_tbl := sorry
theorem q1286 : (Jvm.Cond.selects "LabelDriver" ({ cls := "java/lang/Object", name := "getClass", desc := "()Ljava/lang/Class;" } : Jvm.MethodName) ({ cls := "java/lang/Object", name := "getClass", desc := "()Ljava/lang/Class;" } : Jvm.MethodName)) ∈ lw_all := sorry
theorem q1320 : (Jvm.Cond.classLink "LabelDriver" (1 : Nat) "java/lang/IllegalArgumentException") ∈ lw_all := sorry
theorem q1321 : (Jvm.Cond.methodLink "LabelDriver" (3 : Nat) ({ cls := "java/lang/IllegalArgumentException", name := "<init>", desc := "()V" } : Jvm.MethodName)) ∈ lw_all := sorry
theorem q1325 : (Jvm.Cond.methodLink "LabelDriver" (88 : Nat) ({ cls := "java/util/ArrayDeque", name := "clear", desc := "()V" } : Jvm.MethodName)) ∈ lw_all := sorry
theorem q1336 : (Jvm.Cond.instanceMethod ({ cls := "LabelDriver", name := "mountRoll", desc := "(IIIII)I" } : Jvm.MethodName)) ∈ lw_all := sorry
theorem q1337 : (Jvm.Cond.selects "LabelDriver" ({ cls := "LabelDriver", name := "mountRoll", desc := "(IIIII)I" } : Jvm.MethodName) ({ cls := "LabelDriver", name := "mountRoll", desc := "(IIIII)I" } : Jvm.MethodName)) ∈ lw_all := sorry
theorem q1338 : (Jvm.Cond.code ({ cls := "LabelDriver", name := "mountRoll", desc := "(IIIII)I" } : Jvm.MethodName) prog_1_method_16_code (6 : Nat) (Option.some Jvm.ClassFile.FieldType.int)) ∈ lw_all := sorry
theorem q1339 : (Jvm.Cond.constantLong "LabelDriver" (125 : Nat) (99 : Int64)) ∈ lw_all := sorry
theorem q1340 : (Jvm.Cond.constantLong "LabelDriver" (127 : Nat) (20 : Int64)) ∈ lw_all := sorry
theorem q1341 : (Jvm.Cond.constantLong "LabelDriver" (129 : Nat) (300 : Int64)) ∈ lw_all := sorry
theorem q1342 : (Jvm.Cond.constantLong "LabelDriver" (131 : Nat) (2 : Int64)) ∈ lw_all := sorry
theorem q1343 : (Jvm.Cond.constantLong "LabelDriver" (133 : Nat) (40 : Int64)) ∈ lw_all := sorry
theorem q1344 : (Jvm.Cond.constantLong "LabelDriver" (135 : Nat) (255 : Int64)) ∈ lw_all := sorry
theorem q1345 : (Jvm.Cond.methodLink "LabelDriver" (137 : Nat) ({ cls := "LabelDriver", name := "checkArgument", desc := "(Z)V" } : Jvm.MethodName)) ∈ lw_all := sorry
theorem q1346 : (Jvm.Cond.static ({ cls := "LabelDriver", name := "checkArgument", desc := "(Z)V" } : Jvm.MethodName)) ∈ lw_all := sorry
theorem q1347 : (Jvm.Cond.code ({ cls := "LabelDriver", name := "checkArgument", desc := "(Z)V" } : Jvm.MethodName) prog_1_method_2_code (1 : Nat) (Option.none : Option Jvm.ClassFile.FieldType)) ∈ lw_all := sorry
theorem q1348 : (Jvm.Cond.methodLink "LabelDriver" (140 : Nat) ({ cls := "LabelDriver", name := "keep", desc := "()V" } : Jvm.MethodName)) ∈ lw_all := sorry
theorem q1349 : (Jvm.Cond.privateMethod ({ cls := "LabelDriver", name := "keep", desc := "()V" } : Jvm.MethodName)) ∈ lw_tbl := sorry
theorem q1350 : (Jvm.Cond.instanceMethod ({ cls := "LabelDriver", name := "keep", desc := "()V" } : Jvm.MethodName)) ∈ lw_all := sorry
theorem q1351 : (Jvm.Cond.code ({ cls := "LabelDriver", name := "keep", desc := "()V" } : Jvm.MethodName) prog_1_method_13_code (1 : Nat) (Option.none : Option Jvm.ClassFile.FieldType)) ∈ lw_all := sorry
theorem q1352 : (Jvm.Cond.methodLink "LabelDriver" (102 : Nat) ({ cls := "java/util/ArrayDeque", name := "removeFirst", desc := "()Ljava/lang/Object;" } : Jvm.MethodName)) ∈ lw_all := sorry
theorem q1361 : (Jvm.Cond.methodLink "LabelDriver" (106 : Nat) ({ cls := "LabelDriver$State", name := "<init>", desc := "(LLabelDriver;LLabelDriver$State;)V" } : Jvm.MethodName)) ∈ lw_all := sorry
theorem q1374 : (Jvm.Cond.fieldLinkNest "LabelDriver" (166 : Nat) "LabelDriver$Roll" "labels" "I" "LabelDriver") ∈ lw_tbl := sorry
theorem q1376 : (Jvm.Cond.fieldLinkNest "LabelDriver" (179 : Nat) "LabelDriver$Roll" "length" "I" "LabelDriver") ∈ lw_tbl := sorry
theorem q1381 : (Jvm.Cond.fieldLinkNest "LabelDriver" (173 : Nat) "LabelDriver$Roll" "begins" "[I" "LabelDriver") ∈ lw_tbl := sorry
theorem q1433 : (Jvm.Cond.methodLink "LabelDriver" (109 : Nat) ({ cls := "java/util/ArrayDeque", name := "addLast", desc := "(Ljava/lang/Object;)V" } : Jvm.MethodName)) ∈ lw_all := sorry
theorem q1434 : (Jvm.Cond.classLink "LabelDriver" (143 : Nat) "LabelDriver$Roll") ∈ lw_all := sorry
theorem q1435 : (Jvm.Cond.methodLink "LabelDriver" (145 : Nat) ({ cls := "LabelDriver$Roll", name := "<init>", desc := "(IIIII)V" } : Jvm.MethodName)) ∈ lw_all := sorry
theorem q1436 : (Jvm.Cond.methodLink "LabelDriver" (160 : Nat) ({ cls := "LabelDriver$Roll", name := "end", desc := "()I" } : Jvm.MethodName)) ∈ lw_all := sorry
theorem q1461 : (Jvm.Cond.instanceMethod ({ cls := "LabelDriver", name := "stretch", desc := "(II)I" } : Jvm.MethodName)) ∈ lw_all := sorry
theorem q1462 : (Jvm.Cond.selects "LabelDriver" ({ cls := "LabelDriver", name := "stretch", desc := "(II)I" } : Jvm.MethodName) ({ cls := "LabelDriver", name := "stretch", desc := "(II)I" } : Jvm.MethodName)) ∈ lw_all := sorry
theorem q1463 : (Jvm.Cond.code ({ cls := "LabelDriver", name := "stretch", desc := "(II)I" } : Jvm.MethodName) prog_1_method_17_code (3 : Nat) (Option.some Jvm.ClassFile.FieldType.int)) ∈ lw_all := sorry
theorem q1464 : (Jvm.Cond.methodLink "LabelDriver" (163 : Nat) ({ cls := "LabelDriver", name := "checkRoll", desc := "()V" } : Jvm.MethodName)) ∈ lw_all := sorry
theorem q1465 : (Jvm.Cond.privateMethod ({ cls := "LabelDriver", name := "checkRoll", desc := "()V" } : Jvm.MethodName)) ∈ lw_tbl := sorry
theorem q1466 : (Jvm.Cond.instanceMethod ({ cls := "LabelDriver", name := "checkRoll", desc := "()V" } : Jvm.MethodName)) ∈ lw_all := sorry
theorem q1467 : (Jvm.Cond.code ({ cls := "LabelDriver", name := "checkRoll", desc := "()V" } : Jvm.MethodName) prog_1_method_14_code (1 : Nat) (Option.none : Option Jvm.ClassFile.FieldType)) ∈ lw_all := sorry
theorem q1468 : (Jvm.Cond.methodLink "LabelDriver" (117 : Nat) ({ cls := "LabelDriver", name := "checkState", desc := "(Z)V" } : Jvm.MethodName)) ∈ lw_all := sorry
theorem q1469 : (Jvm.Cond.static ({ cls := "LabelDriver", name := "checkState", desc := "(Z)V" } : Jvm.MethodName)) ∈ lw_all := sorry
theorem q1470 : (Jvm.Cond.code ({ cls := "LabelDriver", name := "checkState", desc := "(Z)V" } : Jvm.MethodName) prog_1_method_3_code (1 : Nat) (Option.none : Option Jvm.ClassFile.FieldType)) ∈ lw_all := sorry
theorem q1471 : (Jvm.Cond.classLink "LabelDriver" (7 : Nat) "java/lang/IllegalStateException") ∈ lw_all := sorry
theorem q1472 : (Jvm.Cond.methodLink "LabelDriver" (9 : Nat) ({ cls := "java/lang/IllegalStateException", name := "<init>", desc := "()V" } : Jvm.MethodName)) ∈ lw_all := sorry
theorem q1476 : (Jvm.Cond.constantLong "LabelDriver" (177 : Nat) (-20 : Int64)) ∈ lw_all := sorry
theorem q1477 : (Jvm.Cond.methodLink "LabelDriver" (182 : Nat) ({ cls := "LabelDriver$Roll", name := "stretch", desc := "(II)V" } : Jvm.MethodName)) ∈ lw_all := sorry
theorem q1485 : (Jvm.Cond.instanceMethod ({ cls := "LabelDriver", name := "mountRibbon", desc := "(I)I" } : Jvm.MethodName)) ∈ lw_all := sorry
theorem q1486 : (Jvm.Cond.selects "LabelDriver" ({ cls := "LabelDriver", name := "mountRibbon", desc := "(I)I" } : Jvm.MethodName) ({ cls := "LabelDriver", name := "mountRibbon", desc := "(I)I" } : Jvm.MethodName)) ∈ lw_all := sorry
theorem q1487 : (Jvm.Cond.code ({ cls := "LabelDriver", name := "mountRibbon", desc := "(I)I" } : Jvm.MethodName) prog_1_method_18_code (3 : Nat) (Option.some Jvm.ClassFile.FieldType.int)) ∈ lw_all := sorry
theorem q1488 : (Jvm.Cond.constantLong "LabelDriver" (185 : Nat) (99999 : Int64)) ∈ lw_all := sorry
theorem q1493 : (Jvm.Cond.instanceMethod ({ cls := "LabelDriver", name := "position", desc := "()I" } : Jvm.MethodName)) ∈ lw_all := sorry
theorem q1494 : (Jvm.Cond.selects "LabelDriver" ({ cls := "LabelDriver", name := "position", desc := "()I" } : Jvm.MethodName) ({ cls := "LabelDriver", name := "position", desc := "()I" } : Jvm.MethodName)) ∈ lw_all := sorry
theorem q1495 : (Jvm.Cond.code ({ cls := "LabelDriver", name := "position", desc := "()I" } : Jvm.MethodName) prog_1_method_20_code (1 : Nat) (Option.some Jvm.ClassFile.FieldType.int)) ∈ lw_all := sorry
theorem q1500 : (Jvm.Cond.instanceMethod ({ cls := "LabelDriver", name := "webEnd", desc := "()I" } : Jvm.MethodName)) ∈ lw_all := sorry
theorem q1501 : (Jvm.Cond.selects "LabelDriver" ({ cls := "LabelDriver", name := "webEnd", desc := "()I" } : Jvm.MethodName) ({ cls := "LabelDriver", name := "webEnd", desc := "()I" } : Jvm.MethodName)) ∈ lw_all := sorry
theorem q1502 : (Jvm.Cond.code ({ cls := "LabelDriver", name := "webEnd", desc := "()I" } : Jvm.MethodName) prog_1_method_21_code (1 : Nat) (Option.some Jvm.ClassFile.FieldType.int)) ∈ lw_all := sorry
theorem q1507 : (Jvm.Cond.instanceMethod ({ cls := "LabelDriver", name := "labelBegin", desc := "(I)I" } : Jvm.MethodName)) ∈ lw_all := sorry
theorem q1508 : (Jvm.Cond.selects "LabelDriver" ({ cls := "LabelDriver", name := "labelBegin", desc := "(I)I" } : Jvm.MethodName) ({ cls := "LabelDriver", name := "labelBegin", desc := "(I)I" } : Jvm.MethodName)) ∈ lw_all := sorry
theorem q1509 : (Jvm.Cond.code ({ cls := "LabelDriver", name := "labelBegin", desc := "(I)I" } : Jvm.MethodName) prog_1_method_22_code (2 : Nat) (Option.some Jvm.ClassFile.FieldType.int)) ∈ lw_all := sorry
theorem q1514 : (Jvm.Cond.instanceMethod ({ cls := "LabelDriver", name := "lightAt", desc := "(I)I" } : Jvm.MethodName)) ∈ lw_all := sorry
theorem q1515 : (Jvm.Cond.selects "LabelDriver" ({ cls := "LabelDriver", name := "lightAt", desc := "(I)I" } : Jvm.MethodName) ({ cls := "LabelDriver", name := "lightAt", desc := "(I)I" } : Jvm.MethodName)) ∈ lw_all := sorry
theorem q1516 : (Jvm.Cond.code ({ cls := "LabelDriver", name := "lightAt", desc := "(I)I" } : Jvm.MethodName) prog_1_method_23_code (2 : Nat) (Option.some Jvm.ClassFile.FieldType.int)) ∈ lw_all := sorry
theorem q1517 : (Jvm.Cond.methodLink "LabelDriver" (190 : Nat) ({ cls := "LabelDriver$Roll", name := "lightAt", desc := "(I)I" } : Jvm.MethodName)) ∈ lw_all := sorry
theorem q1522 : (Jvm.Cond.instanceMethod ({ cls := "LabelDriver", name := "labelUnderHead", desc := "()I" } : Jvm.MethodName)) ∈ lw_all := sorry
theorem q1523 : (Jvm.Cond.selects "LabelDriver" ({ cls := "LabelDriver", name := "labelUnderHead", desc := "()I" } : Jvm.MethodName) ({ cls := "LabelDriver", name := "labelUnderHead", desc := "()I" } : Jvm.MethodName)) ∈ lw_all := sorry
theorem q1524 : (Jvm.Cond.code ({ cls := "LabelDriver", name := "labelUnderHead", desc := "()I" } : Jvm.MethodName) prog_1_method_24_code (1 : Nat) (Option.some Jvm.ClassFile.FieldType.int)) ∈ lw_all := sorry
theorem q1525 : (Jvm.Cond.methodLink "LabelDriver" (194 : Nat) ({ cls := "LabelDriver$Roll", name := "labelAt", desc := "(I)I" } : Jvm.MethodName)) ∈ lw_all := sorry
theorem q1530 : (Jvm.Cond.instanceMethod ({ cls := "LabelDriver", name := "feed", desc := "(I)I" } : Jvm.MethodName)) ∈ lw_all := sorry
theorem q1531 : (Jvm.Cond.selects "LabelDriver" ({ cls := "LabelDriver", name := "feed", desc := "(I)I" } : Jvm.MethodName) ({ cls := "LabelDriver", name := "feed", desc := "(I)I" } : Jvm.MethodName)) ∈ lw_all := sorry
theorem q1532 : (Jvm.Cond.code ({ cls := "LabelDriver", name := "feed", desc := "(I)I" } : Jvm.MethodName) prog_1_method_25_code (2 : Nat) (Option.some Jvm.ClassFile.FieldType.int)) ∈ lw_all := sorry
theorem q1533 : (Jvm.Cond.constantLong "LabelDriver" (197 : Nat) (-300 : Int64)) ∈ lw_all := sorry
theorem q1534 : (Jvm.Cond.constantLong "LabelDriver" (199 : Nat) (-500 : Int64)) ∈ lw_all := sorry
theorem q1535 : (Jvm.Cond.methodLink "LabelDriver" (201 : Nat) ({ cls := "LabelDriver$State", name := "feedTo", desc := "(I)V" } : Jvm.MethodName)) ∈ lw_all := sorry
theorem q1552 : (Jvm.Cond.instanceMethod ({ cls := "LabelDriver", name := "feedToForm", desc := "()I" } : Jvm.MethodName)) ∈ lw_all := sorry
theorem q1553 : (Jvm.Cond.selects "LabelDriver" ({ cls := "LabelDriver", name := "feedToForm", desc := "()I" } : Jvm.MethodName) ({ cls := "LabelDriver", name := "feedToForm", desc := "()I" } : Jvm.MethodName)) ∈ lw_all := sorry
theorem q1554 : (Jvm.Cond.code ({ cls := "LabelDriver", name := "feedToForm", desc := "()I" } : Jvm.MethodName) prog_1_method_26_code (2 : Nat) (Option.some Jvm.ClassFile.FieldType.int)) ∈ lw_all := sorry
theorem q1555 : (Jvm.Cond.methodLink "LabelDriver" (205 : Nat) ({ cls := "LabelDriver", name := "checkReady", desc := "()V" } : Jvm.MethodName)) ∈ lw_all := sorry
theorem q1556 : (Jvm.Cond.privateMethod ({ cls := "LabelDriver", name := "checkReady", desc := "()V" } : Jvm.MethodName)) ∈ lw_tbl := sorry
theorem q1557 : (Jvm.Cond.instanceMethod ({ cls := "LabelDriver", name := "checkReady", desc := "()V" } : Jvm.MethodName)) ∈ lw_all := sorry
theorem q1558 : (Jvm.Cond.code ({ cls := "LabelDriver", name := "checkReady", desc := "()V" } : Jvm.MethodName) prog_1_method_15_code (1 : Nat) (Option.none : Option Jvm.ClassFile.FieldType)) ∈ lw_all := sorry
theorem q1563 : (Jvm.Cond.instanceMethod ({ cls := "LabelDriver", name := "learn", desc := "()I" } : Jvm.MethodName)) ∈ lw_all := sorry
theorem q1564 : (Jvm.Cond.selects "LabelDriver" ({ cls := "LabelDriver", name := "learn", desc := "()I" } : Jvm.MethodName) ({ cls := "LabelDriver", name := "learn", desc := "()I" } : Jvm.MethodName)) ∈ lw_all := sorry
theorem q1565 : (Jvm.Cond.codeWith ({ cls := "LabelDriver", name := "learn", desc := "()I" } : Jvm.MethodName) prog_1_method_27_code (2 : Nat) (Option.some Jvm.ClassFile.FieldType.int) [((16 : Nat), (23 : Nat), (26 : Nat), (217 : Nat))]) ∈ lw_all := sorry
theorem q1566 : (Jvm.Cond.classLink "LabelDriver" (217 : Nat) "LabelDriver$Trouble") ∈ lw_all := sorry
theorem q1567 : (Jvm.Cond.methodLink "LabelDriver" (214 : Nat) ({ cls := "LabelDriver$State", name := "learn", desc := "()V" } : Jvm.MethodName)) ∈ lw_all := sorry
theorem q1667 : (Jvm.Cond.methodLink "LabelDriver" (219 : Nat) ({ cls := "LabelDriver$State", name := "note", desc := "(LLabelDriver$Trouble;)V" } : Jvm.MethodName)) ∈ lw_all := sorry
theorem q1676 : (Jvm.Cond.instanceMethod ({ cls := "LabelDriver", name := "learned", desc := "(I)I" } : Jvm.MethodName)) ∈ lw_all := sorry
theorem q1677 : (Jvm.Cond.selects "LabelDriver" ({ cls := "LabelDriver", name := "learned", desc := "(I)I" } : Jvm.MethodName) ({ cls := "LabelDriver", name := "learned", desc := "(I)I" } : Jvm.MethodName)) ∈ lw_all := sorry
theorem q1678 : (Jvm.Cond.code ({ cls := "LabelDriver", name := "learned", desc := "(I)I" } : Jvm.MethodName) prog_1_method_29_code (2 : Nat) (Option.some Jvm.ClassFile.FieldType.int)) ∈ lw_all := sorry
theorem q1679 : (Jvm.Cond.methodLink "LabelDriver" (223 : Nat) ({ cls := "LabelDriver", name := "checkElement", desc := "(II)V" } : Jvm.MethodName)) ∈ lw_all := sorry
theorem q1680 : (Jvm.Cond.static ({ cls := "LabelDriver", name := "checkElement", desc := "(II)V" } : Jvm.MethodName)) ∈ lw_all := sorry
theorem q1681 : (Jvm.Cond.code ({ cls := "LabelDriver", name := "checkElement", desc := "(II)V" } : Jvm.MethodName) prog_1_method_5_code (2 : Nat) (Option.none : Option Jvm.ClassFile.FieldType)) ∈ lw_all := sorry
theorem q1682 : (Jvm.Cond.classLink "LabelDriver" (19 : Nat) "java/util/NoSuchElementException") ∈ lw_all := sorry
theorem q1683 : (Jvm.Cond.methodLink "LabelDriver" (21 : Nat) ({ cls := "java/util/NoSuchElementException", name := "<init>", desc := "()V" } : Jvm.MethodName)) ∈ lw_all := sorry
theorem q1688 : (Jvm.Cond.instanceMethod ({ cls := "LabelDriver", name := "gapsSeen", desc := "()I" } : Jvm.MethodName)) ∈ lw_all := sorry
theorem q1689 : (Jvm.Cond.selects "LabelDriver" ({ cls := "LabelDriver", name := "gapsSeen", desc := "()I" } : Jvm.MethodName) ({ cls := "LabelDriver", name := "gapsSeen", desc := "()I" } : Jvm.MethodName)) ∈ lw_all := sorry
theorem q1690 : (Jvm.Cond.code ({ cls := "LabelDriver", name := "gapsSeen", desc := "()I" } : Jvm.MethodName) prog_1_method_30_code (3 : Nat) (Option.some Jvm.ClassFile.FieldType.int)) ∈ lw_all := sorry
theorem q1691 : (Jvm.Cond.methodLink "LabelDriver" (238 : Nat) ({ cls := "java/lang/Math", name := "min", desc := "(II)I" } : Jvm.MethodName)) ∈ lw_all := sorry
theorem q1692 : (Jvm.Cond.methodLinkNest "LabelDriver" (244 : Nat) ({ cls := "LabelDriver$State", name := "beginnings", desc := "(II)Ljava/util/Iterator;" } : Jvm.MethodName) "LabelDriver") ∈ lw_tbl := sorry
theorem q1697 : (Jvm.Cond.instanceMethod ({ cls := "LabelDriver", name := "seenTo", desc := "()I" } : Jvm.MethodName)) ∈ lw_all := sorry
theorem q1698 : (Jvm.Cond.selects "LabelDriver" ({ cls := "LabelDriver", name := "seenTo", desc := "()I" } : Jvm.MethodName) ({ cls := "LabelDriver", name := "seenTo", desc := "()I" } : Jvm.MethodName)) ∈ lw_all := sorry
theorem q1699 : (Jvm.Cond.code ({ cls := "LabelDriver", name := "seenTo", desc := "()I" } : Jvm.MethodName) prog_1_method_31_code (1 : Nat) (Option.some Jvm.ClassFile.FieldType.int)) ∈ lw_all := sorry
theorem q1704 : (Jvm.Cond.instanceMethod ({ cls := "LabelDriver", name := "backfeed", desc := "()I" } : Jvm.MethodName)) ∈ lw_all := sorry
theorem q1705 : (Jvm.Cond.selects "LabelDriver" ({ cls := "LabelDriver", name := "backfeed", desc := "()I" } : Jvm.MethodName) ({ cls := "LabelDriver", name := "backfeed", desc := "()I" } : Jvm.MethodName)) ∈ lw_all := sorry
theorem q1706 : (Jvm.Cond.code ({ cls := "LabelDriver", name := "backfeed", desc := "()I" } : Jvm.MethodName) prog_1_method_32_code (1 : Nat) (Option.some Jvm.ClassFile.FieldType.int)) ∈ lw_all := sorry
theorem q1711 : (Jvm.Cond.instanceMethod ({ cls := "LabelDriver", name := "nextGap", desc := "(I)I" } : Jvm.MethodName)) ∈ lw_all := sorry
theorem q1712 : (Jvm.Cond.selects "LabelDriver" ({ cls := "LabelDriver", name := "nextGap", desc := "(I)I" } : Jvm.MethodName) ({ cls := "LabelDriver", name := "nextGap", desc := "(I)I" } : Jvm.MethodName)) ∈ lw_all := sorry
theorem q1713 : (Jvm.Cond.code ({ cls := "LabelDriver", name := "nextGap", desc := "(I)I" } : Jvm.MethodName) prog_1_method_33_code (3 : Nat) (Option.some Jvm.ClassFile.FieldType.int)) ∈ lw_all := sorry
theorem q1714 : (Jvm.Cond.classLink "LabelDriver" (260 : Nat) "java/lang/Integer") ∈ lw_all := sorry
theorem q1715 : (Jvm.Cond.methodLink "LabelDriver" (262 : Nat) ({ cls := "java/lang/Integer", name := "intValue", desc := "()I" } : Jvm.MethodName)) ∈ lw_all := sorry
theorem q1720 : (Jvm.Cond.instanceMethod ({ cls := "LabelDriver", name := "tearPlace", desc := "()I" } : Jvm.MethodName)) ∈ lw_all := sorry
theorem q1721 : (Jvm.Cond.selects "LabelDriver" ({ cls := "LabelDriver", name := "tearPlace", desc := "()I" } : Jvm.MethodName) ({ cls := "LabelDriver", name := "tearPlace", desc := "()I" } : Jvm.MethodName)) ∈ lw_all := sorry
theorem q1722 : (Jvm.Cond.code ({ cls := "LabelDriver", name := "tearPlace", desc := "()I" } : Jvm.MethodName) prog_1_method_35_code (1 : Nat) (Option.some Jvm.ClassFile.FieldType.int)) ∈ lw_all := sorry
theorem q1723 : (Jvm.Cond.methodLink "LabelDriver" (265 : Nat) ({ cls := "LabelDriver$State", name := "tearPlace", desc := "()I" } : Jvm.MethodName)) ∈ lw_all := sorry
theorem q1731 : (Jvm.Cond.instanceMethod ({ cls := "LabelDriver", name := "batchField", desc := "(II)I" } : Jvm.MethodName)) ∈ lw_all := sorry
theorem q1732 : (Jvm.Cond.selects "LabelDriver" ({ cls := "LabelDriver", name := "batchField", desc := "(II)I" } : Jvm.MethodName) ({ cls := "LabelDriver", name := "batchField", desc := "(II)I" } : Jvm.MethodName)) ∈ lw_all := sorry
theorem q1733 : (Jvm.Cond.code ({ cls := "LabelDriver", name := "batchField", desc := "(II)I" } : Jvm.MethodName) prog_1_method_38_code (4 : Nat) (Option.some Jvm.ClassFile.FieldType.int)) ∈ lw_all := sorry
theorem q1738 : (Jvm.Cond.instanceMethod ({ cls := "LabelDriver", name := "number", desc := "(II)I" } : Jvm.MethodName)) ∈ lw_all := sorry
theorem q1739 : (Jvm.Cond.selects "LabelDriver" ({ cls := "LabelDriver", name := "number", desc := "(II)I" } : Jvm.MethodName) ({ cls := "LabelDriver", name := "number", desc := "(II)I" } : Jvm.MethodName)) ∈ lw_all := sorry
theorem q1740 : (Jvm.Cond.code ({ cls := "LabelDriver", name := "number", desc := "(II)I" } : Jvm.MethodName) prog_1_method_39_code (3 : Nat) (Option.some Jvm.ClassFile.FieldType.int)) ∈ lw_all := sorry
theorem q1741 : (Jvm.Cond.methodLink "LabelDriver" (296 : Nat) ({ cls := "LabelDriver", name := "placeAt", desc := "(II)I" } : Jvm.MethodName)) ∈ lw_all := sorry
theorem q1742 : (Jvm.Cond.privateMethod ({ cls := "LabelDriver", name := "placeAt", desc := "(II)I" } : Jvm.MethodName)) ∈ lw_tbl := sorry
theorem q1743 : (Jvm.Cond.instanceMethod ({ cls := "LabelDriver", name := "placeAt", desc := "(II)I" } : Jvm.MethodName)) ∈ lw_all := sorry
theorem q1744 : (Jvm.Cond.code ({ cls := "LabelDriver", name := "placeAt", desc := "(II)I" } : Jvm.MethodName) prog_1_method_37_code (3 : Nat) (Option.some Jvm.ClassFile.FieldType.int)) ∈ lw_all := sorry
theorem q1749 : (Jvm.Cond.instanceMethod ({ cls := "LabelDriver", name := "checkDigit", desc := "(II)I" } : Jvm.MethodName)) ∈ lw_all := sorry
theorem q1750 : (Jvm.Cond.selects "LabelDriver" ({ cls := "LabelDriver", name := "checkDigit", desc := "(II)I" } : Jvm.MethodName) ({ cls := "LabelDriver", name := "checkDigit", desc := "(II)I" } : Jvm.MethodName)) ∈ lw_all := sorry
theorem q1751 : (Jvm.Cond.code ({ cls := "LabelDriver", name := "checkDigit", desc := "(II)I" } : Jvm.MethodName) prog_1_method_40_code (3 : Nat) (Option.some Jvm.ClassFile.FieldType.int)) ∈ lw_all := sorry
theorem q1752 : (Jvm.Cond.methodLink "LabelDriver" (302 : Nat) ({ cls := "LabelDriver$Batch", name := "checkDigit", desc := "(I)I" } : Jvm.MethodName)) ∈ lw_all := sorry
theorem q1761 : (Jvm.Cond.instanceMethod ({ cls := "LabelDriver", name := "stateOf", desc := "(II)I" } : Jvm.MethodName)) ∈ lw_all := sorry
theorem q1762 : (Jvm.Cond.selects "LabelDriver" ({ cls := "LabelDriver", name := "stateOf", desc := "(II)I" } : Jvm.MethodName) ({ cls := "LabelDriver", name := "stateOf", desc := "(II)I" } : Jvm.MethodName)) ∈ lw_all := sorry
theorem q1763 : (Jvm.Cond.code ({ cls := "LabelDriver", name := "stateOf", desc := "(II)I" } : Jvm.MethodName) prog_1_method_41_code (3 : Nat) (Option.some Jvm.ClassFile.FieldType.int)) ∈ lw_all := sorry
theorem q1768 : (Jvm.Cond.instanceMethod ({ cls := "LabelDriver", name := "attempts", desc := "(II)I" } : Jvm.MethodName)) ∈ lw_all := sorry
theorem q1769 : (Jvm.Cond.selects "LabelDriver" ({ cls := "LabelDriver", name := "attempts", desc := "(II)I" } : Jvm.MethodName) ({ cls := "LabelDriver", name := "attempts", desc := "(II)I" } : Jvm.MethodName)) ∈ lw_all := sorry
theorem q1770 : (Jvm.Cond.code ({ cls := "LabelDriver", name := "attempts", desc := "(II)I" } : Jvm.MethodName) prog_1_method_42_code (3 : Nat) (Option.some Jvm.ClassFile.FieldType.int)) ∈ lw_all := sorry
theorem q1775 : (Jvm.Cond.instanceMethod ({ cls := "LabelDriver", name := "countOf", desc := "(II)I" } : Jvm.MethodName)) ∈ lw_all := sorry
theorem q1776 : (Jvm.Cond.selects "LabelDriver" ({ cls := "LabelDriver", name := "countOf", desc := "(II)I" } : Jvm.MethodName) ({ cls := "LabelDriver", name := "countOf", desc := "(II)I" } : Jvm.MethodName)) ∈ lw_all := sorry
theorem q1777 : (Jvm.Cond.code ({ cls := "LabelDriver", name := "countOf", desc := "(II)I" } : Jvm.MethodName) prog_1_method_44_code (3 : Nat) (Option.some Jvm.ClassFile.FieldType.int)) ∈ lw_all := sorry
theorem q1782 : (Jvm.Cond.instanceMethod ({ cls := "LabelDriver", name := "printedAs", desc := "(I)I" } : Jvm.MethodName)) ∈ lw_all := sorry
theorem q1783 : (Jvm.Cond.selects "LabelDriver" ({ cls := "LabelDriver", name := "printedAs", desc := "(I)I" } : Jvm.MethodName) ({ cls := "LabelDriver", name := "printedAs", desc := "(I)I" } : Jvm.MethodName)) ∈ lw_all := sorry
theorem q1784 : (Jvm.Cond.code ({ cls := "LabelDriver", name := "printedAs", desc := "(I)I" } : Jvm.MethodName) prog_1_method_49_code (4 : Nat) (Option.some Jvm.ClassFile.FieldType.int)) ∈ lw_all := sorry
theorem q1785 : (Jvm.Cond.fieldLink "LabelDriver" (328 : Nat) "LabelDriver" "TENS" "[I") ∈ lw_all := sorry
theorem q1786 : (Jvm.Cond.methodLink "LabelDriver" (331 : Nat) ({ cls := "LabelDriver", name := "serialWith", desc := "(IIZ)I" } : Jvm.MethodName)) ∈ lw_all := sorry
theorem q1787 : (Jvm.Cond.privateMethod ({ cls := "LabelDriver", name := "serialWith", desc := "(IIZ)I" } : Jvm.MethodName)) ∈ lw_tbl := sorry
theorem q1788 : (Jvm.Cond.instanceMethod ({ cls := "LabelDriver", name := "serialWith", desc := "(IIZ)I" } : Jvm.MethodName)) ∈ lw_all := sorry
theorem q1789 : (Jvm.Cond.code ({ cls := "LabelDriver", name := "serialWith", desc := "(IIZ)I" } : Jvm.MethodName) prog_1_method_50_code (6 : Nat) (Option.some Jvm.ClassFile.FieldType.int)) ∈ lw_all := sorry
theorem q1790 : (Jvm.Cond.methodLink "LabelDriver" (335 : Nat) ({ cls := "LabelDriver$Serial", name := "<init>", desc := "(II)V" } : Jvm.MethodName)) ∈ lw_all := sorry
theorem q1795 : (Jvm.Cond.instanceMethod ({ cls := "LabelDriver", name := "verify", desc := "(III)I" } : Jvm.MethodName)) ∈ lw_all := sorry
theorem q1796 : (Jvm.Cond.selects "LabelDriver" ({ cls := "LabelDriver", name := "verify", desc := "(III)I" } : Jvm.MethodName) ({ cls := "LabelDriver", name := "verify", desc := "(III)I" } : Jvm.MethodName)) ∈ lw_all := sorry
theorem q1797 : (Jvm.Cond.code ({ cls := "LabelDriver", name := "verify", desc := "(III)I" } : Jvm.MethodName) prog_1_method_51_code (6 : Nat) (Option.some Jvm.ClassFile.FieldType.int)) ∈ lw_all := sorry
theorem q1802 : (Jvm.Cond.instanceMethod ({ cls := "LabelDriver", name := "run", desc := "(I)I" } : Jvm.MethodName)) ∈ lw_all := sorry
theorem q1803 : (Jvm.Cond.selects "LabelDriver" ({ cls := "LabelDriver", name := "run", desc := "(I)I" } : Jvm.MethodName) ({ cls := "LabelDriver", name := "run", desc := "(I)I" } : Jvm.MethodName)) ∈ lw_all := sorry
theorem q1804 : (Jvm.Cond.code ({ cls := "LabelDriver", name := "run", desc := "(I)I" } : Jvm.MethodName) prog_1_method_54_code (2 : Nat) (Option.some Jvm.ClassFile.FieldType.int)) ∈ lw_all := sorry
theorem q1805 : (Jvm.Cond.constantLong "LabelDriver" (341 : Nat) (60 : Int64)) ∈ lw_all := sorry
theorem q1806 : (Jvm.Cond.methodLink "LabelDriver" (343 : Nat) ({ cls := "LabelDriver$State", name := "run", desc := "(I)I" } : Jvm.MethodName)) ∈ lw_all := sorry
theorem q1875 : (Jvm.Cond.instanceMethod ({ cls := "LabelDriver", name := "wouldRun", desc := "(II)I" } : Jvm.MethodName)) ∈ lw_all := sorry
theorem q1876 : (Jvm.Cond.selects "LabelDriver" ({ cls := "LabelDriver", name := "wouldRun", desc := "(II)I" } : Jvm.MethodName) ({ cls := "LabelDriver", name := "wouldRun", desc := "(II)I" } : Jvm.MethodName)) ∈ lw_all := sorry
theorem q1877 : (Jvm.Cond.code ({ cls := "LabelDriver", name := "wouldRun", desc := "(II)I" } : Jvm.MethodName) prog_1_method_55_code (5 : Nat) (Option.some Jvm.ClassFile.FieldType.int)) ∈ lw_all := sorry
theorem q1882 : (Jvm.Cond.instanceMethod ({ cls := "LabelDriver", name := "logField", desc := "(II)I" } : Jvm.MethodName)) ∈ lw_all := sorry
theorem q1883 : (Jvm.Cond.selects "LabelDriver" ({ cls := "LabelDriver", name := "logField", desc := "(II)I" } : Jvm.MethodName) ({ cls := "LabelDriver", name := "logField", desc := "(II)I" } : Jvm.MethodName)) ∈ lw_all := sorry
theorem q1884 : (Jvm.Cond.code ({ cls := "LabelDriver", name := "logField", desc := "(II)I" } : Jvm.MethodName) prog_1_method_57_code (3 : Nat) (Option.some Jvm.ClassFile.FieldType.int)) ∈ lw_all := sorry
theorem q1889 : (Jvm.Cond.instanceMethod ({ cls := "LabelDriver", name := "makeVoid", desc := "(II)I" } : Jvm.MethodName)) ∈ lw_all := sorry
theorem q1890 : (Jvm.Cond.selects "LabelDriver" ({ cls := "LabelDriver", name := "makeVoid", desc := "(II)I" } : Jvm.MethodName) ({ cls := "LabelDriver", name := "makeVoid", desc := "(II)I" } : Jvm.MethodName)) ∈ lw_all := sorry
theorem q1891 : (Jvm.Cond.code ({ cls := "LabelDriver", name := "makeVoid", desc := "(II)I" } : Jvm.MethodName) prog_1_method_62_code (4 : Nat) (Option.some Jvm.ClassFile.FieldType.int)) ∈ lw_all := sorry
theorem q1896 : (Jvm.Cond.instanceMethod ({ cls := "LabelDriver", name := "requeue", desc := "(II)I" } : Jvm.MethodName)) ∈ lw_all := sorry
theorem q1897 : (Jvm.Cond.selects "LabelDriver" ({ cls := "LabelDriver", name := "requeue", desc := "(II)I" } : Jvm.MethodName) ({ cls := "LabelDriver", name := "requeue", desc := "(II)I" } : Jvm.MethodName)) ∈ lw_all := sorry
theorem q1898 : (Jvm.Cond.code ({ cls := "LabelDriver", name := "requeue", desc := "(II)I" } : Jvm.MethodName) prog_1_method_63_code (5 : Nat) (Option.some Jvm.ClassFile.FieldType.int)) ∈ lw_all := sorry
theorem q1899 : (Jvm.Cond.methodLink "LabelDriver" (358 : Nat) ({ cls := "LabelDriver$State", name := "isListed", desc := "(LLabelDriver$Serial;)Z" } : Jvm.MethodName)) ∈ lw_all := sorry
theorem q1912 : (Jvm.Cond.instanceMethod ({ cls := "LabelDriver", name := "unqueue", desc := "(II)I" } : Jvm.MethodName)) ∈ lw_all := sorry
theorem q1913 : (Jvm.Cond.selects "LabelDriver" ({ cls := "LabelDriver", name := "unqueue", desc := "(II)I" } : Jvm.MethodName) ({ cls := "LabelDriver", name := "unqueue", desc := "(II)I" } : Jvm.MethodName)) ∈ lw_all := sorry
theorem q1914 : (Jvm.Cond.code ({ cls := "LabelDriver", name := "unqueue", desc := "(II)I" } : Jvm.MethodName) prog_1_method_64_code (4 : Nat) (Option.some Jvm.ClassFile.FieldType.int)) ∈ lw_all := sorry
theorem q1915 : (Jvm.Cond.methodLink "LabelDriver" (362 : Nat) ({ cls := "LabelDriver$State", name := "unlist", desc := "(II)V" } : Jvm.MethodName)) ∈ lw_all := sorry
theorem q1924 : (Jvm.Cond.instanceMethod ({ cls := "LabelDriver", name := "abandon", desc := "(I)I" } : Jvm.MethodName)) ∈ lw_all := sorry
theorem q1925 : (Jvm.Cond.selects "LabelDriver" ({ cls := "LabelDriver", name := "abandon", desc := "(I)I" } : Jvm.MethodName) ({ cls := "LabelDriver", name := "abandon", desc := "(I)I" } : Jvm.MethodName)) ∈ lw_all := sorry
theorem q1926 : (Jvm.Cond.code ({ cls := "LabelDriver", name := "abandon", desc := "(I)I" } : Jvm.MethodName) prog_1_method_65_code (5 : Nat) (Option.some Jvm.ClassFile.FieldType.int)) ∈ lw_all := sorry
theorem q1931 : (Jvm.Cond.instanceMethod ({ cls := "LabelDriver", name := "ribbonLasts", desc := "()I" } : Jvm.MethodName)) ∈ lw_all := sorry
theorem q1932 : (Jvm.Cond.selects "LabelDriver" ({ cls := "LabelDriver", name := "ribbonLasts", desc := "()I" } : Jvm.MethodName) ({ cls := "LabelDriver", name := "ribbonLasts", desc := "()I" } : Jvm.MethodName)) ∈ lw_all := sorry
theorem q1933 : (Jvm.Cond.code ({ cls := "LabelDriver", name := "ribbonLasts", desc := "()I" } : Jvm.MethodName) prog_1_method_68_code (2 : Nat) (Option.some Jvm.ClassFile.FieldType.int)) ∈ lw_all := sorry
theorem q1938 : (Jvm.Cond.instanceMethod ({ cls := "LabelDriver", name := "webLasts", desc := "()I" } : Jvm.MethodName)) ∈ lw_all := sorry
theorem q1939 : (Jvm.Cond.selects "LabelDriver" ({ cls := "LabelDriver", name := "webLasts", desc := "()I" } : Jvm.MethodName) ({ cls := "LabelDriver", name := "webLasts", desc := "()I" } : Jvm.MethodName)) ∈ lw_all := sorry
theorem q1940 : (Jvm.Cond.code ({ cls := "LabelDriver", name := "webLasts", desc := "()I" } : Jvm.MethodName) prog_1_method_69_code (1 : Nat) (Option.some Jvm.ClassFile.FieldType.int)) ∈ lw_all := sorry
theorem q1941 : (Jvm.Cond.methodLink "LabelDriver" (377 : Nat) ({ cls := "LabelDriver", name := "sum", desc := "([I)I" } : Jvm.MethodName)) ∈ lw_all := sorry
theorem q1942 : (Jvm.Cond.static ({ cls := "LabelDriver", name := "sum", desc := "([I)I" } : Jvm.MethodName)) ∈ lw_all := sorry
theorem q1943 : (Jvm.Cond.code ({ cls := "LabelDriver", name := "sum", desc := "([I)I" } : Jvm.MethodName) prog_1_method_6_code (6 : Nat) (Option.some Jvm.ClassFile.FieldType.int)) ∈ lw_all := sorry
theorem q1948 : (Jvm.Cond.instanceMethod ({ cls := "LabelDriver", name := "total", desc := "(I)I" } : Jvm.MethodName)) ∈ lw_all := sorry
theorem q1949 : (Jvm.Cond.selects "LabelDriver" ({ cls := "LabelDriver", name := "total", desc := "(I)I" } : Jvm.MethodName) ({ cls := "LabelDriver", name := "total", desc := "(I)I" } : Jvm.MethodName)) ∈ lw_all := sorry
theorem q1950 : (Jvm.Cond.code ({ cls := "LabelDriver", name := "total", desc := "(I)I" } : Jvm.MethodName) prog_1_method_72_code (2 : Nat) (Option.some Jvm.ClassFile.FieldType.int)) ∈ lw_all := sorry
theorem q1955 : (Jvm.Cond.instanceMethod ({ cls := "LabelDriver", name := "formatSerial", desc := "(II)I" } : Jvm.MethodName)) ∈ lw_all := sorry
theorem q1956 : (Jvm.Cond.selects "LabelDriver" ({ cls := "LabelDriver", name := "formatSerial", desc := "(II)I" } : Jvm.MethodName) ({ cls := "LabelDriver", name := "formatSerial", desc := "(II)I" } : Jvm.MethodName)) ∈ lw_all := sorry
theorem q1957 : (Jvm.Cond.code ({ cls := "LabelDriver", name := "formatSerial", desc := "(II)I" } : Jvm.MethodName) prog_1_method_73_code (6 : Nat) (Option.some Jvm.ClassFile.FieldType.int)) ∈ lw_all := sorry
theorem q1958 : (Jvm.Cond.methodLink "LabelDriver" (381 : Nat) ({ cls := "java/lang/StringBuilder", name := "setLength", desc := "(I)V" } : Jvm.MethodName)) ∈ lw_all := sorry
theorem q2010 : (Jvm.Cond.methodLink "LabelDriver" (388 : Nat) ({ cls := "java/lang/StringBuilder", name := "append", desc := "(Ljava/lang/String;)Ljava/lang/StringBuilder;" } : Jvm.MethodName)) ∈ lw_all := sorry
theorem q2011 : (Jvm.Cond.methodLink "LabelDriver" (392 : Nat) ({ cls := "java/lang/StringBuilder", name := "append", desc := "(C)Ljava/lang/StringBuilder;" } : Jvm.MethodName)) ∈ lw_all := sorry
theorem q2012 : (Jvm.Cond.methodLink "LabelDriver" (395 : Nat) ({ cls := "java/lang/StringBuilder", name := "append", desc := "(I)Ljava/lang/StringBuilder;" } : Jvm.MethodName)) ∈ lw_all := sorry
theorem q2017 : (Jvm.Cond.instanceMethod ({ cls := "LabelDriver", name := "formatBatch", desc := "(I)I" } : Jvm.MethodName)) ∈ lw_all := sorry
theorem q2018 : (Jvm.Cond.selects "LabelDriver" ({ cls := "LabelDriver", name := "formatBatch", desc := "(I)I" } : Jvm.MethodName) ({ cls := "LabelDriver", name := "formatBatch", desc := "(I)I" } : Jvm.MethodName)) ∈ lw_all := sorry
theorem q2019 : (Jvm.Cond.code ({ cls := "LabelDriver", name := "formatBatch", desc := "(I)I" } : Jvm.MethodName) prog_1_method_74_code (5 : Nat) (Option.some Jvm.ClassFile.FieldType.int)) ∈ lw_all := sorry
theorem q2020 : (Jvm.Cond.methodLink "LabelDriver" (400 : Nat) ({ cls := "LabelDriver$Serial", name := "<init>", desc := "(I)V" } : Jvm.MethodName)) ∈ lw_all := sorry
theorem q2637 : (Jvm.Cond.castable "LabelDriver" "java/lang/Object") ∈ lw_tbl := sorry
theorem in_X1 : ∀ w ∈ wsX10, w ∈ lw_all := sorry
/-! LabelDriver$Settings -/
set_option maxRecDepth 100000
def RX2 : String := "LabelDriver$Settings"
def TX2 : u_T := fun k => match k with
  | 0 => ("LabelDriver$Settings", "batches", "Ljava/util/ArrayList;", true)
  | 1 => ("LabelDriver$Settings", "sensor", "I", false)
  | 2 => ("LabelDriver$Settings", "edge", "I", false)
  | 3 => ("LabelDriver$Settings", "tolerance", "I", false)
  | 4 => ("LabelDriver$Settings", "top", "I", false)
  | _ => ("LabelDriver$Settings", "height", "I", false)
def tyX2 : Nat → FieldType := fun k => match k with
  | 0 => .object "java/util/ArrayList"
  | 1 => .int
  | 2 => .int
  | 3 => .int
  | 4 => .int
  | _ => .int
abbrev wsX20 : List Cond := u_ws RX2 TX2 6
theorem nmX2 : ∀ a, a < 6 → ∀ b, b < 6 → a ≠ b → (TX2 a).2.1 ≠ (TX2 b).2.1 := sorry
theorem tyX2_ok : ∀ k, k < 6 → parseFieldDescriptor (TX2 k).2.2.1 = some (tyX2 k) := sorry
abbrev cX2_init : ByteArray := prog_10_method_1_code
def yX2_init : MethodName := ⟨RX2, "<init>", "()V"⟩
def dkwX2_init_1 : List UInt8 := [16, 40, 181, 0, 22, 42, 8, 181, 0, 25, 42, 16, 20, 181, 0, 28, 177]
abbrev dktX2_init_1 : List UInt8 := dkwX2_init_1 ++ []
def dkwX2_init_0 : List UInt8 := [42, 183, 0, 1, 42, 187, 0, 7, 89, 5, 183, 0, 9, 181, 0, 12, 42, 16, 50, 181, 0, 18, 42]
abbrev dktX2_init_0 : List UInt8 := dkwX2_init_0 ++ dktX2_init_1
theorem dksX2_init_0 : cX2_init.data.toList.drop 0 = dktX2_init_0 := sorry
theorem dksX2_init_1 : cX2_init.data.toList.drop 23 = dktX2_init_1 := sorry
theorem dX2_init_0 : decode cX2_init 0 = .ok (.aload_n 0, 1) := sorry
theorem dX2_init_1 : decode cX2_init 1 = .ok (.invokespecial 1, 3) := sorry
theorem dX2_init_4 : decode cX2_init 4 = .ok (.aload_n 0, 1) := sorry
theorem dX2_init_5 : decode cX2_init 5 = .ok (.new 7, 3) := sorry
theorem dX2_init_8 : decode cX2_init 8 = .ok (.dup, 1) := sorry
theorem dX2_init_9 : decode cX2_init 9 = .ok (.iconst 2, 1) := sorry
theorem dX2_init_10 : decode cX2_init 10 = .ok (.invokespecial 9, 3) := sorry
theorem dX2_init_13 : decode cX2_init 13 = .ok (.putfield 12, 3) := sorry
theorem dX2_init_16 : decode cX2_init 16 = .ok (.aload_n 0, 1) := sorry
theorem dX2_init_17 : decode cX2_init 17 = .ok (.bipush 50, 2) := sorry
theorem dX2_init_19 : decode cX2_init 19 = .ok (.putfield 18, 3) := sorry
theorem dX2_init_22 : decode cX2_init 22 = .ok (.aload_n 0, 1) := sorry
theorem dX2_init_23 : decode cX2_init 23 = .ok (.bipush 40, 2) := sorry
theorem dX2_init_25 : decode cX2_init 25 = .ok (.putfield 22, 3) := sorry
theorem dX2_init_28 : decode cX2_init 28 = .ok (.aload_n 0, 1) := sorry
theorem dX2_init_29 : decode cX2_init 29 = .ok (.iconst 5, 1) := sorry
theorem dX2_init_30 : decode cX2_init 30 = .ok (.putfield 25, 3) := sorry
theorem dX2_init_33 : decode cX2_init 33 = .ok (.aload_n 0, 1) := sorry
theorem dX2_init_34 : decode cX2_init 34 = .ok (.bipush 20, 2) := sorry
theorem dX2_init_36 : decode cX2_init 36 = .ok (.putfield 28, 3) := sorry
theorem dX2_init_39 : decode cX2_init 39 = .ok (.return_, 1) := sorry
theorem q87 : (Jvm.Cond.initialized "LabelDriver$Settings") ∈ lw_all := sorry
theorem q160 : (Jvm.Cond.instantiable "LabelDriver$Settings" (6 : Nat)) ∈ lw_all := sorry
theorem q162 : (Jvm.Cond.instanceMethod ({ cls := "LabelDriver$Settings", name := "<init>", desc := "()V" } : Jvm.MethodName)) ∈ lw_all := sorry
theorem q163 : (Jvm.Cond.code ({ cls := "LabelDriver$Settings", name := "<init>", desc := "()V" } : Jvm.MethodName) prog_10_method_1_code (1 : Nat) (Option.none : Option Jvm.ClassFile.FieldType)) ∈ lw_all := sorry
theorem q164 : (Jvm.Cond.methodLink "LabelDriver$Settings" (1 : Nat) ({ cls := "java/lang/Object", name := "<init>", desc := "()V" } : Jvm.MethodName)) ∈ lw_all := sorry
theorem q165 : (Jvm.Cond.classLink "LabelDriver$Settings" (7 : Nat) "java/util/ArrayList") ∈ lw_all := sorry
theorem q167 : (Jvm.Cond.methodLink "LabelDriver$Settings" (9 : Nat) ({ cls := "java/util/ArrayList", name := "<init>", desc := "(I)V" } : Jvm.MethodName)) ∈ lw_all := sorry
theorem q511 : (Jvm.Cond.fieldLink "LabelDriver$Settings" (12 : Nat) "LabelDriver$Settings" "batches" "Ljava/util/ArrayList;") ∈ lw_all := sorry
theorem q515 : (Jvm.Cond.fieldLink "LabelDriver$Settings" (18 : Nat) "LabelDriver$Settings" "sensor" "I") ∈ lw_all := sorry
theorem q519 : (Jvm.Cond.fieldLink "LabelDriver$Settings" (22 : Nat) "LabelDriver$Settings" "edge" "I") ∈ lw_all := sorry
theorem q522 : (Jvm.Cond.fieldLink "LabelDriver$Settings" (25 : Nat) "LabelDriver$Settings" "tolerance" "I") ∈ lw_all := sorry
theorem q528 : (Jvm.Cond.fieldLink "LabelDriver$Settings" (28 : Nat) "LabelDriver$Settings" "height" "I") ∈ lw_all := sorry
theorem q532 : (Jvm.Cond.laysFinal "LabelDriver$Settings" "LabelDriver$Settings" "batches" "Ljava/util/ArrayList;") ∈ lw_all := sorry
theorem q533 : (Jvm.Cond.soleField "LabelDriver$Settings" "batches") ∈ lw_all := sorry
theorem q534 : (Jvm.Cond.lays "LabelDriver$Settings" "LabelDriver$Settings" "sensor" "I") ∈ lw_all := sorry
theorem q535 : (Jvm.Cond.soleField "LabelDriver$Settings" "sensor") ∈ lw_all := sorry
theorem q536 : (Jvm.Cond.lays "LabelDriver$Settings" "LabelDriver$Settings" "edge" "I") ∈ lw_all := sorry
theorem q537 : (Jvm.Cond.soleField "LabelDriver$Settings" "edge") ∈ lw_all := sorry
theorem q538 : (Jvm.Cond.lays "LabelDriver$Settings" "LabelDriver$Settings" "tolerance" "I") ∈ lw_all := sorry
theorem q539 : (Jvm.Cond.soleField "LabelDriver$Settings" "tolerance") ∈ lw_all := sorry
theorem q540 : (Jvm.Cond.lays "LabelDriver$Settings" "LabelDriver$Settings" "top" "I") ∈ lw_all := sorry
theorem q541 : (Jvm.Cond.soleField "LabelDriver$Settings" "top") ∈ lw_all := sorry
theorem q542 : (Jvm.Cond.lays "LabelDriver$Settings" "LabelDriver$Settings" "height" "I") ∈ lw_all := sorry
theorem q543 : (Jvm.Cond.soleField "LabelDriver$Settings" "height") ∈ lw_all := sorry
theorem q544 : (Jvm.Cond.superclass "LabelDriver$Settings" "java/lang/Object") ∈ lw_all := sorry
theorem q1295 : (Jvm.Cond.selects "LabelDriver$Settings" ({ cls := "java/lang/Object", name := "getClass", desc := "()Ljava/lang/Class;" } : Jvm.MethodName) ({ cls := "java/lang/Object", name := "getClass", desc := "()Ljava/lang/Class;" } : Jvm.MethodName)) ∈ lw_all := sorry
theorem q2639 : (Jvm.Cond.castable "LabelDriver$Settings" "java/lang/Object") ∈ lw_tbl := sorry
theorem in_X2 : ∀ w ∈ wsX20, w ∈ lw_all := sorry
/-! LabelDriver$State -/
set_option maxRecDepth 100000
def RX3 : String := "LabelDriver$State"
def TX3 : u_T := fun k => match k with
  | 0 => ("LabelDriver$State", "roll", "LLabelDriver$Roll;", false)
  | 1 => ("LabelDriver$State", "ribbon", "I", false)
  | 2 => ("LabelDriver$State", "position", "I", false)
  | 3 => ("LabelDriver$State", "seen", "I", false)
  | 4 => ("LabelDriver$State", "trouble", "I", false)
  | 5 => ("LabelDriver$State", "cause", "I", false)
  | 6 => ("LabelDriver$State", "shift", "I", false)
  | 7 => ("LabelDriver$State", "logged", "I", false)
  | 8 => ("LabelDriver$State", "log", "[I", true)
  | 9 => ("LabelDriver$State", "isReady", "Z", false)
  | 10 => ("LabelDriver$State", "gapsAreLight", "Z", false)
  | 11 => ("LabelDriver$State", "threshold", "I", false)
  | 12 => ("LabelDriver$State", "label", "I", false)
  | 13 => ("LabelDriver$State", "gap", "I", false)
  | 14 => ("LabelDriver$State", "form", "I", false)
  | 15 => ("LabelDriver$State", "state", "[I", true)
  | 16 => ("LabelDriver$State", "attempts", "[I", true)
  | 17 => ("LabelDriver$State", "totals", "[I", true)
  | 18 => ("LabelDriver$State", "list", "Ljava/util/ArrayDeque;", true)
  | _ => ("LabelDriver$State", "this$0", "LLabelDriver;", true)
def tyX3 : Nat → FieldType := fun k => match k with
  | 0 => .object "LabelDriver$Roll"
  | 1 => .int
  | 2 => .int
  | 3 => .int
  | 4 => .int
  | 5 => .int
  | 6 => .int
  | 7 => .int
  | 8 => .array .int
  | 9 => .boolean
  | 10 => .boolean
  | 11 => .int
  | 12 => .int
  | 13 => .int
  | 14 => .int
  | 15 => .array .int
  | 16 => .array .int
  | 17 => .array .int
  | 18 => .object "java/util/ArrayDeque"
  | _ => .object "LabelDriver"
abbrev wsX30 : List Cond := u_ws RX3 TX3 20
set_option maxRecDepth 100000 in
theorem nmX3 : ∀ a, a < 20 → ∀ b, b < 20 → a ≠ b → (TX3 a).2.1 ≠ (TX3 b).2.1 := sorry
set_option maxRecDepth 100000 in
theorem tyX3_ok : ∀ k, k < 20 → parseFieldDescriptor (TX3 k).2.2.1 = some (tyX3 k) := sorry
abbrev cX3_init : ByteArray := prog_11_method_1_code
def yX3_init : MethodName := ⟨RX3, "<init>", "(LLabelDriver;)V"⟩
def dkwX3_init_2 : List UInt8 := [89, 7, 183, 0, 30, 181, 0, 33, 177]
abbrev dktX3_init_2 : List UInt8 := dkwX3_init_2 ++ []
def dkwX3_init_1 : List UInt8 := [181, 0, 19, 42, 17, 0, 240, 188, 10, 181, 0, 22, 42, 16, 6, 188, 10, 181, 0, 25, 42, 187, 0, 28]
abbrev dktX3_init_1 : List UInt8 := dkwX3_init_1 ++ dktX3_init_2
def dkwX3_init_0 : List UInt8 := [42, 43, 181, 0, 3, 42, 183, 0, 9, 42, 16, 96, 188, 10, 181, 0, 15, 42, 17, 0, 240, 188, 10]
abbrev dktX3_init_0 : List UInt8 := dkwX3_init_0 ++ dktX3_init_1
theorem dksX3_init_0 : cX3_init.data.toList.drop 0 = dktX3_init_0 := sorry
theorem dksX3_init_1 : cX3_init.data.toList.drop 23 = dktX3_init_1 := sorry
theorem dksX3_init_2 : cX3_init.data.toList.drop 47 = dktX3_init_2 := sorry
theorem dX3_init_0 : decode cX3_init 0 = .ok (.aload_n 0, 1) := sorry
theorem dX3_init_1 : decode cX3_init 1 = .ok (.aload_n 1, 1) := sorry
theorem dX3_init_2 : decode cX3_init 2 = .ok (.putfield 3, 3) := sorry
theorem dX3_init_5 : decode cX3_init 5 = .ok (.aload_n 0, 1) := sorry
theorem dX3_init_6 : decode cX3_init 6 = .ok (.invokespecial 9, 3) := sorry
theorem dX3_init_9 : decode cX3_init 9 = .ok (.aload_n 0, 1) := sorry
theorem dX3_init_10 : decode cX3_init 10 = .ok (.bipush 96, 2) := sorry
theorem dX3_init_12 : decode cX3_init 12 = .ok (.newarray .int, 2) := sorry
theorem dX3_init_14 : decode cX3_init 14 = .ok (.putfield 15, 3) := sorry
theorem dX3_init_17 : decode cX3_init 17 = .ok (.aload_n 0, 1) := sorry
theorem dX3_init_18 : decode cX3_init 18 = .ok (.sipush 240, 3) := sorry
theorem dX3_init_21 : decode cX3_init 21 = .ok (.newarray .int, 2) := sorry
theorem dX3_init_23 : decode cX3_init 23 = .ok (.putfield 19, 3) := sorry
theorem dX3_init_26 : decode cX3_init 26 = .ok (.aload_n 0, 1) := sorry
theorem dX3_init_27 : decode cX3_init 27 = .ok (.sipush 240, 3) := sorry
theorem dX3_init_30 : decode cX3_init 30 = .ok (.newarray .int, 2) := sorry
theorem dX3_init_32 : decode cX3_init 32 = .ok (.putfield 22, 3) := sorry
theorem dX3_init_35 : decode cX3_init 35 = .ok (.aload_n 0, 1) := sorry
theorem dX3_init_36 : decode cX3_init 36 = .ok (.bipush 6, 2) := sorry
theorem dX3_init_38 : decode cX3_init 38 = .ok (.newarray .int, 2) := sorry
theorem dX3_init_40 : decode cX3_init 40 = .ok (.putfield 25, 3) := sorry
theorem dX3_init_43 : decode cX3_init 43 = .ok (.aload_n 0, 1) := sorry
theorem dX3_init_44 : decode cX3_init 44 = .ok (.new 28, 3) := sorry
theorem dX3_init_47 : decode cX3_init 47 = .ok (.dup, 1) := sorry
theorem dX3_init_48 : decode cX3_init 48 = .ok (.iconst 4, 1) := sorry
theorem dX3_init_49 : decode cX3_init 49 = .ok (.invokespecial 30, 3) := sorry
theorem dX3_init_52 : decode cX3_init 52 = .ok (.putfield 33, 3) := sorry
theorem dX3_init_55 : decode cX3_init 55 = .ok (.return_, 1) := sorry
abbrev cX3_isBeginning : ByteArray := prog_11_method_7_code
def yX3_isBeginning : MethodName := ⟨RX3, "isBeginning", "(I)Z"⟩
def dkwX3_isBeginning_0 : List UInt8 := [42, 27, 182, 0, 139, 153, 0, 17, 42, 27, 4, 100, 182, 0, 139, 154, 0, 7, 4, 167, 0, 4, 3, 172]
abbrev dktX3_isBeginning_0 : List UInt8 := dkwX3_isBeginning_0 ++ []
theorem dksX3_isBeginning_0 : cX3_isBeginning.data.toList.drop 0 = dktX3_isBeginning_0 := sorry
theorem dX3_isBeginning_0 : decode cX3_isBeginning 0 = .ok (.aload_n 0, 1) := sorry
theorem dX3_isBeginning_1 : decode cX3_isBeginning 1 = .ok (.iload_n 1, 1) := sorry
theorem dX3_isBeginning_2 : decode cX3_isBeginning 2 = .ok (.invokevirtual 139, 3) := sorry
theorem dX3_isBeginning_5 : decode cX3_isBeginning 5 = .ok (.ifCond .eq 17, 3) := sorry
theorem dX3_isBeginning_8 : decode cX3_isBeginning 8 = .ok (.aload_n 0, 1) := sorry
theorem dX3_isBeginning_9 : decode cX3_isBeginning 9 = .ok (.iload_n 1, 1) := sorry
theorem dX3_isBeginning_10 : decode cX3_isBeginning 10 = .ok (.iconst 1, 1) := sorry
theorem dX3_isBeginning_11 : decode cX3_isBeginning 11 = .ok (.isub, 1) := sorry
theorem dX3_isBeginning_12 : decode cX3_isBeginning 12 = .ok (.invokevirtual 139, 3) := sorry
theorem dX3_isBeginning_15 : decode cX3_isBeginning 15 = .ok (.ifCond .ne 7, 3) := sorry
theorem dX3_isBeginning_18 : decode cX3_isBeginning 18 = .ok (.iconst 1, 1) := sorry
theorem dX3_isBeginning_19 : decode cX3_isBeginning 19 = .ok (.goto 4, 3) := sorry
theorem dX3_isBeginning_22 : decode cX3_isBeginning 22 = .ok (.iconst 0, 1) := sorry
theorem dX3_isBeginning_23 : decode cX3_isBeginning 23 = .ok (.ireturn, 1) := sorry
abbrev cX3_isGap : ByteArray := prog_11_method_6_code
def yX3_isGap : MethodName := ⟨RX3, "isGap", "(I)Z"⟩
def dkwX3_isGap_1 : List UInt8 := [160, 0, 7, 4, 167, 0, 4, 3, 172]
abbrev dktX3_isGap_1 : List UInt8 := dkwX3_isGap_1 ++ []
def dkwX3_isGap_0 : List UInt8 := [42, 180, 0, 37, 27, 182, 0, 135, 42, 180, 0, 81, 164, 0, 7, 4, 167, 0, 4, 3, 42, 180, 0, 78]
abbrev dktX3_isGap_0 : List UInt8 := dkwX3_isGap_0 ++ dktX3_isGap_1
theorem dksX3_isGap_0 : cX3_isGap.data.toList.drop 0 = dktX3_isGap_0 := sorry
theorem dksX3_isGap_1 : cX3_isGap.data.toList.drop 24 = dktX3_isGap_1 := sorry
theorem dX3_isGap_0 : decode cX3_isGap 0 = .ok (.aload_n 0, 1) := sorry
theorem dX3_isGap_1 : decode cX3_isGap 1 = .ok (.getfield 37, 3) := sorry
theorem dX3_isGap_4 : decode cX3_isGap 4 = .ok (.iload_n 1, 1) := sorry
theorem dX3_isGap_5 : decode cX3_isGap 5 = .ok (.invokevirtual 135, 3) := sorry
theorem dX3_isGap_8 : decode cX3_isGap 8 = .ok (.aload_n 0, 1) := sorry
theorem dX3_isGap_9 : decode cX3_isGap 9 = .ok (.getfield 81, 3) := sorry
theorem dX3_isGap_12 : decode cX3_isGap 12 = .ok (.if_icmp .le 7, 3) := sorry
theorem dX3_isGap_15 : decode cX3_isGap 15 = .ok (.iconst 1, 1) := sorry
theorem dX3_isGap_16 : decode cX3_isGap 16 = .ok (.goto 4, 3) := sorry
theorem dX3_isGap_19 : decode cX3_isGap 19 = .ok (.iconst 0, 1) := sorry
theorem dX3_isGap_20 : decode cX3_isGap 20 = .ok (.aload_n 0, 1) := sorry
theorem dX3_isGap_21 : decode cX3_isGap 21 = .ok (.getfield 78, 3) := sorry
theorem dX3_isGap_24 : decode cX3_isGap 24 = .ok (.if_icmp .ne 7, 3) := sorry
theorem dX3_isGap_27 : decode cX3_isGap 27 = .ok (.iconst 1, 1) := sorry
theorem dX3_isGap_28 : decode cX3_isGap 28 = .ok (.goto 4, 3) := sorry
theorem dX3_isGap_31 : decode cX3_isGap 31 = .ok (.iconst 0, 1) := sorry
theorem dX3_isGap_32 : decode cX3_isGap 32 = .ok (.ireturn, 1) := sorry
abbrev cX3_next : ByteArray := prog_11_method_14_code
def yX3_next : MethodName := ⟨RX3, "next", "()LLabelDriver$Serial;"⟩
def dkwX3_next_4 : List UInt8 := [167, 255, 205, 132, 1, 1, 167, 255, 180, 1, 176]
abbrev dktX3_next_4 : List UInt8 := dkwX3_next_4 ++ []
def dkwX3_next_3 : List UInt8 := [16, 40, 27, 104, 28, 96, 46, 154, 0, 13, 187, 0, 107, 89, 27, 28, 183, 0, 217, 176, 132, 2, 1]
abbrev dktX3_next_3 : List UInt8 := dkwX3_next_3 ++ dktX3_next_4
def dkwX3_next_2 : List UInt8 := [180, 0, 113, 180, 0, 199, 27, 182, 0, 208, 192, 0, 212, 180, 0, 214, 162, 0, 33, 42, 180, 0, 19]
abbrev dktX3_next_2 : List UInt8 := dkwX3_next_2 ++ dktX3_next_3
def dkwX3_next_1 : List UInt8 := [42, 180, 0, 3, 180, 0, 113, 180, 0, 199, 182, 0, 203, 162, 0, 65, 3, 61, 28, 42, 180, 0, 3]
abbrev dktX3_next_1 : List UInt8 := dkwX3_next_1 ++ dktX3_next_2
def dkwX3_next_0 : List UInt8 := [42, 180, 0, 33, 182, 0, 193, 154, 0, 14, 42, 180, 0, 33, 182, 0, 196, 192, 0, 107, 176, 3, 60, 27]
abbrev dktX3_next_0 : List UInt8 := dkwX3_next_0 ++ dktX3_next_1
theorem dksX3_next_0 : cX3_next.data.toList.drop 0 = dktX3_next_0 := sorry
theorem dksX3_next_1 : cX3_next.data.toList.drop 24 = dktX3_next_1 := sorry
theorem dksX3_next_2 : cX3_next.data.toList.drop 47 = dktX3_next_2 := sorry
theorem dksX3_next_3 : cX3_next.data.toList.drop 70 = dktX3_next_3 := sorry
theorem dksX3_next_4 : cX3_next.data.toList.drop 93 = dktX3_next_4 := sorry
theorem dX3_next_0 : decode cX3_next 0 = .ok (.aload_n 0, 1) := sorry
theorem dX3_next_1 : decode cX3_next 1 = .ok (.getfield 33, 3) := sorry
theorem dX3_next_4 : decode cX3_next 4 = .ok (.invokevirtual 193, 3) := sorry
theorem dX3_next_7 : decode cX3_next 7 = .ok (.ifCond .ne 14, 3) := sorry
theorem dX3_next_10 : decode cX3_next 10 = .ok (.aload_n 0, 1) := sorry
theorem dX3_next_11 : decode cX3_next 11 = .ok (.getfield 33, 3) := sorry
theorem dX3_next_14 : decode cX3_next 14 = .ok (.invokevirtual 196, 3) := sorry
theorem dX3_next_17 : decode cX3_next 17 = .ok (.checkcast 107, 3) := sorry
theorem dX3_next_20 : decode cX3_next 20 = .ok (.areturn, 1) := sorry
theorem dX3_next_21 : decode cX3_next 21 = .ok (.iconst 0, 1) := sorry
theorem dX3_next_22 : decode cX3_next 22 = .ok (.istore_n 1, 1) := sorry
theorem dX3_next_23 : decode cX3_next 23 = .ok (.iload_n 1, 1) := sorry
theorem dX3_next_24 : decode cX3_next 24 = .ok (.aload_n 0, 1) := sorry
theorem dX3_next_25 : decode cX3_next 25 = .ok (.getfield 3, 3) := sorry
theorem dX3_next_28 : decode cX3_next 28 = .ok (.getfield 113, 3) := sorry
theorem dX3_next_31 : decode cX3_next 31 = .ok (.getfield 199, 3) := sorry
theorem dX3_next_34 : decode cX3_next 34 = .ok (.invokevirtual 203, 3) := sorry
theorem dX3_next_37 : decode cX3_next 37 = .ok (.if_icmp .ge 65, 3) := sorry
theorem dX3_next_40 : decode cX3_next 40 = .ok (.iconst 0, 1) := sorry
theorem dX3_next_41 : decode cX3_next 41 = .ok (.istore_n 2, 1) := sorry
theorem dX3_next_42 : decode cX3_next 42 = .ok (.iload_n 2, 1) := sorry
theorem dX3_next_43 : decode cX3_next 43 = .ok (.aload_n 0, 1) := sorry
theorem dX3_next_44 : decode cX3_next 44 = .ok (.getfield 3, 3) := sorry
theorem dX3_next_47 : decode cX3_next 47 = .ok (.getfield 113, 3) := sorry
theorem dX3_next_50 : decode cX3_next 50 = .ok (.getfield 199, 3) := sorry
theorem dX3_next_53 : decode cX3_next 53 = .ok (.iload_n 1, 1) := sorry
theorem dX3_next_54 : decode cX3_next 54 = .ok (.invokevirtual 208, 3) := sorry
theorem dX3_next_57 : decode cX3_next 57 = .ok (.checkcast 212, 3) := sorry
theorem dX3_next_60 : decode cX3_next 60 = .ok (.getfield 214, 3) := sorry
theorem dX3_next_63 : decode cX3_next 63 = .ok (.if_icmp .ge 33, 3) := sorry
theorem dX3_next_66 : decode cX3_next 66 = .ok (.aload_n 0, 1) := sorry
theorem dX3_next_67 : decode cX3_next 67 = .ok (.getfield 19, 3) := sorry
theorem dX3_next_70 : decode cX3_next 70 = .ok (.bipush 40, 2) := sorry
theorem dX3_next_72 : decode cX3_next 72 = .ok (.iload_n 1, 1) := sorry
theorem dX3_next_73 : decode cX3_next 73 = .ok (.imul, 1) := sorry
theorem dX3_next_74 : decode cX3_next 74 = .ok (.iload_n 2, 1) := sorry
theorem dX3_next_75 : decode cX3_next 75 = .ok (.iadd, 1) := sorry
theorem dX3_next_76 : decode cX3_next 76 = .ok (.iaload, 1) := sorry
theorem dX3_next_77 : decode cX3_next 77 = .ok (.ifCond .ne 13, 3) := sorry
theorem dX3_next_80 : decode cX3_next 80 = .ok (.new 107, 3) := sorry
theorem dX3_next_83 : decode cX3_next 83 = .ok (.dup, 1) := sorry
theorem dX3_next_84 : decode cX3_next 84 = .ok (.iload_n 1, 1) := sorry
theorem dX3_next_85 : decode cX3_next 85 = .ok (.iload_n 2, 1) := sorry
theorem dX3_next_86 : decode cX3_next 86 = .ok (.invokespecial 217, 3) := sorry
theorem dX3_next_89 : decode cX3_next 89 = .ok (.areturn, 1) := sorry
theorem dX3_next_90 : decode cX3_next 90 = .ok (.iinc 2 1, 3) := sorry
theorem dX3_next_93 : decode cX3_next 93 = .ok (.goto (-51), 3) := sorry
theorem dX3_next_96 : decode cX3_next 96 = .ok (.iinc 1 1, 3) := sorry
theorem dX3_next_99 : decode cX3_next 99 = .ok (.goto (-76), 3) := sorry
theorem dX3_next_102 : decode cX3_next 102 = .ok (.aconst_null, 1) := sorry
theorem dX3_next_103 : decode cX3_next 103 = .ok (.areturn, 1) := sorry
abbrev cX3_init_2 : ByteArray := prog_11_method_2_code
def yX3_init_2 : MethodName := ⟨RX3, "<init>", "(LLabelDriver;LLabelDriver$State;)V"⟩
def dkwX3_init_2_12 : List UInt8 := [192, 0, 107, 58, 4, 42, 180, 0, 33, 25, 4, 182, 0, 109, 167, 255, 227, 177]
abbrev dktX3_init_2_12 : List UInt8 := dkwX3_init_2_12 ++ []
def dkwX3_init_2_11 : List UInt8 := [180, 0, 33, 182, 0, 93, 78, 45, 185, 0, 97, 1, 0, 153, 0, 26, 45, 185, 0, 103, 1, 0]
abbrev dktX3_init_2_11 : List UInt8 := dkwX3_init_2_11 ++ dktX3_init_2_12
def dkwX3_init_2_10 : List UInt8 := [184, 0, 68, 44, 180, 0, 25, 3, 42, 180, 0, 25, 3, 42, 180, 0, 25, 190, 184, 0, 68, 44]
abbrev dktX3_init_2_10 : List UInt8 := dkwX3_init_2_10 ++ dktX3_init_2_11
def dkwX3_init_2_9 : List UInt8 := [42, 180, 0, 19, 190, 184, 0, 68, 44, 180, 0, 22, 3, 42, 180, 0, 22, 3, 42, 180, 0, 22, 190]
abbrev dktX3_init_2_9 : List UInt8 := dkwX3_init_2_9 ++ dktX3_init_2_10
def dkwX3_init_2_8 : List UInt8 := [180, 0, 87, 181, 0, 87, 42, 44, 180, 0, 90, 181, 0, 90, 44, 180, 0, 19, 3, 42, 180, 0, 19, 3]
abbrev dktX3_init_2_8 : List UInt8 := dkwX3_init_2_8 ++ dktX3_init_2_9
def dkwX3_init_2_7 : List UInt8 := [180, 0, 78, 181, 0, 78, 42, 44, 180, 0, 81, 181, 0, 81, 42, 44, 180, 0, 84, 181, 0, 84, 42, 44]
abbrev dktX3_init_2_7 : List UInt8 := dkwX3_init_2_7 ++ dktX3_init_2_8
def dkwX3_init_2_6 : List UInt8 := [42, 180, 0, 15, 3, 42, 180, 0, 15, 190, 184, 0, 68, 42, 44, 180, 0, 74, 181, 0, 74, 42, 44]
abbrev dktX3_init_2_6 : List UInt8 := dkwX3_init_2_6 ++ dktX3_init_2_7
def dkwX3_init_2_5 : List UInt8 := [181, 0, 59, 42, 44, 180, 0, 62, 181, 0, 62, 42, 44, 180, 0, 65, 181, 0, 65, 44, 180, 0, 15, 3]
abbrev dktX3_init_2_5 : List UInt8 := dkwX3_init_2_5 ++ dktX3_init_2_6
def dkwX3_init_2_4 : List UInt8 := [181, 0, 50, 42, 44, 180, 0, 53, 181, 0, 53, 42, 44, 180, 0, 56, 181, 0, 56, 42, 44, 180, 0, 59]
abbrev dktX3_init_2_4 : List UInt8 := dkwX3_init_2_4 ++ dktX3_init_2_5
def dkwX3_init_2_3 : List UInt8 := [44, 180, 0, 37, 183, 0, 43, 181, 0, 37, 42, 44, 180, 0, 46, 181, 0, 46, 42, 44, 180, 0, 50]
abbrev dktX3_init_2_3 : List UInt8 := dkwX3_init_2_3 ++ dktX3_init_2_4
def dkwX3_init_2_2 : List UInt8 := [89, 7, 183, 0, 30, 181, 0, 33, 42, 44, 180, 0, 37, 199, 0, 7, 1, 167, 0, 14, 187, 0, 41, 89]
abbrev dktX3_init_2_2 : List UInt8 := dkwX3_init_2_2 ++ dktX3_init_2_3
def dkwX3_init_2_1 : List UInt8 := [181, 0, 19, 42, 17, 0, 240, 188, 10, 181, 0, 22, 42, 16, 6, 188, 10, 181, 0, 25, 42, 187, 0, 28]
abbrev dktX3_init_2_1 : List UInt8 := dkwX3_init_2_1 ++ dktX3_init_2_2
def dkwX3_init_2_0 : List UInt8 := [42, 43, 181, 0, 3, 42, 183, 0, 9, 42, 16, 96, 188, 10, 181, 0, 15, 42, 17, 0, 240, 188, 10]
abbrev dktX3_init_2_0 : List UInt8 := dkwX3_init_2_0 ++ dktX3_init_2_1
theorem dksX3_init_2_0 : cX3_init_2.data.toList.drop 0 = dktX3_init_2_0 := sorry
theorem dksX3_init_2_1 : cX3_init_2.data.toList.drop 23 = dktX3_init_2_1 := sorry
theorem dksX3_init_2_2 : cX3_init_2.data.toList.drop 47 = dktX3_init_2_2 := sorry
theorem dksX3_init_2_3 : cX3_init_2.data.toList.drop 71 = dktX3_init_2_3 := sorry
theorem dksX3_init_2_4 : cX3_init_2.data.toList.drop 94 = dktX3_init_2_4 := sorry
theorem dksX3_init_2_5 : cX3_init_2.data.toList.drop 118 = dktX3_init_2_5 := sorry
theorem dksX3_init_2_6 : cX3_init_2.data.toList.drop 142 = dktX3_init_2_6 := sorry
theorem dksX3_init_2_7 : cX3_init_2.data.toList.drop 165 = dktX3_init_2_7 := sorry
theorem dksX3_init_2_8 : cX3_init_2.data.toList.drop 189 = dktX3_init_2_8 := sorry
theorem dksX3_init_2_9 : cX3_init_2.data.toList.drop 213 = dktX3_init_2_9 := sorry
theorem dksX3_init_2_10 : cX3_init_2.data.toList.drop 236 = dktX3_init_2_10 := sorry
theorem dksX3_init_2_11 : cX3_init_2.data.toList.drop 258 = dktX3_init_2_11 := sorry
theorem dksX3_init_2_12 : cX3_init_2.data.toList.drop 280 = dktX3_init_2_12 := sorry
theorem dX3_init_2_0 : decode cX3_init_2 0 = .ok (.aload_n 0, 1) := sorry
theorem dX3_init_2_1 : decode cX3_init_2 1 = .ok (.aload_n 1, 1) := sorry
theorem dX3_init_2_2 : decode cX3_init_2 2 = .ok (.putfield 3, 3) := sorry
theorem dX3_init_2_5 : decode cX3_init_2 5 = .ok (.aload_n 0, 1) := sorry
theorem dX3_init_2_6 : decode cX3_init_2 6 = .ok (.invokespecial 9, 3) := sorry
theorem dX3_init_2_9 : decode cX3_init_2 9 = .ok (.aload_n 0, 1) := sorry
theorem dX3_init_2_10 : decode cX3_init_2 10 = .ok (.bipush 96, 2) := sorry
theorem dX3_init_2_12 : decode cX3_init_2 12 = .ok (.newarray .int, 2) := sorry
theorem dX3_init_2_14 : decode cX3_init_2 14 = .ok (.putfield 15, 3) := sorry
theorem dX3_init_2_17 : decode cX3_init_2 17 = .ok (.aload_n 0, 1) := sorry
theorem dX3_init_2_18 : decode cX3_init_2 18 = .ok (.sipush 240, 3) := sorry
theorem dX3_init_2_21 : decode cX3_init_2 21 = .ok (.newarray .int, 2) := sorry
theorem dX3_init_2_23 : decode cX3_init_2 23 = .ok (.putfield 19, 3) := sorry
theorem dX3_init_2_26 : decode cX3_init_2 26 = .ok (.aload_n 0, 1) := sorry
theorem dX3_init_2_27 : decode cX3_init_2 27 = .ok (.sipush 240, 3) := sorry
theorem dX3_init_2_30 : decode cX3_init_2 30 = .ok (.newarray .int, 2) := sorry
theorem dX3_init_2_32 : decode cX3_init_2 32 = .ok (.putfield 22, 3) := sorry
theorem dX3_init_2_35 : decode cX3_init_2 35 = .ok (.aload_n 0, 1) := sorry
theorem dX3_init_2_36 : decode cX3_init_2 36 = .ok (.bipush 6, 2) := sorry
theorem dX3_init_2_38 : decode cX3_init_2 38 = .ok (.newarray .int, 2) := sorry
theorem dX3_init_2_40 : decode cX3_init_2 40 = .ok (.putfield 25, 3) := sorry
theorem dX3_init_2_43 : decode cX3_init_2 43 = .ok (.aload_n 0, 1) := sorry
theorem dX3_init_2_44 : decode cX3_init_2 44 = .ok (.new 28, 3) := sorry
theorem dX3_init_2_47 : decode cX3_init_2 47 = .ok (.dup, 1) := sorry
theorem dX3_init_2_48 : decode cX3_init_2 48 = .ok (.iconst 4, 1) := sorry
theorem dX3_init_2_49 : decode cX3_init_2 49 = .ok (.invokespecial 30, 3) := sorry
theorem dX3_init_2_52 : decode cX3_init_2 52 = .ok (.putfield 33, 3) := sorry
theorem dX3_init_2_55 : decode cX3_init_2 55 = .ok (.aload_n 0, 1) := sorry
theorem dX3_init_2_56 : decode cX3_init_2 56 = .ok (.aload_n 2, 1) := sorry
theorem dX3_init_2_57 : decode cX3_init_2 57 = .ok (.getfield 37, 3) := sorry
theorem dX3_init_2_60 : decode cX3_init_2 60 = .ok (.ifnonnull 7, 3) := sorry
theorem dX3_init_2_63 : decode cX3_init_2 63 = .ok (.aconst_null, 1) := sorry
theorem dX3_init_2_64 : decode cX3_init_2 64 = .ok (.goto 14, 3) := sorry
theorem dX3_init_2_67 : decode cX3_init_2 67 = .ok (.new 41, 3) := sorry
theorem dX3_init_2_70 : decode cX3_init_2 70 = .ok (.dup, 1) := sorry
theorem dX3_init_2_71 : decode cX3_init_2 71 = .ok (.aload_n 2, 1) := sorry
theorem dX3_init_2_72 : decode cX3_init_2 72 = .ok (.getfield 37, 3) := sorry
theorem dX3_init_2_75 : decode cX3_init_2 75 = .ok (.invokespecial 43, 3) := sorry
theorem dX3_init_2_78 : decode cX3_init_2 78 = .ok (.putfield 37, 3) := sorry
theorem dX3_init_2_81 : decode cX3_init_2 81 = .ok (.aload_n 0, 1) := sorry
theorem dX3_init_2_82 : decode cX3_init_2 82 = .ok (.aload_n 2, 1) := sorry
theorem dX3_init_2_83 : decode cX3_init_2 83 = .ok (.getfield 46, 3) := sorry
theorem dX3_init_2_86 : decode cX3_init_2 86 = .ok (.putfield 46, 3) := sorry
theorem dX3_init_2_89 : decode cX3_init_2 89 = .ok (.aload_n 0, 1) := sorry
theorem dX3_init_2_90 : decode cX3_init_2 90 = .ok (.aload_n 2, 1) := sorry
theorem dX3_init_2_91 : decode cX3_init_2 91 = .ok (.getfield 50, 3) := sorry
theorem dX3_init_2_94 : decode cX3_init_2 94 = .ok (.putfield 50, 3) := sorry
theorem dX3_init_2_97 : decode cX3_init_2 97 = .ok (.aload_n 0, 1) := sorry
theorem dX3_init_2_98 : decode cX3_init_2 98 = .ok (.aload_n 2, 1) := sorry
theorem dX3_init_2_99 : decode cX3_init_2 99 = .ok (.getfield 53, 3) := sorry
theorem dX3_init_2_102 : decode cX3_init_2 102 = .ok (.putfield 53, 3) := sorry
theorem dX3_init_2_105 : decode cX3_init_2 105 = .ok (.aload_n 0, 1) := sorry
theorem dX3_init_2_106 : decode cX3_init_2 106 = .ok (.aload_n 2, 1) := sorry
theorem dX3_init_2_107 : decode cX3_init_2 107 = .ok (.getfield 56, 3) := sorry
theorem dX3_init_2_110 : decode cX3_init_2 110 = .ok (.putfield 56, 3) := sorry
theorem dX3_init_2_113 : decode cX3_init_2 113 = .ok (.aload_n 0, 1) := sorry
theorem dX3_init_2_114 : decode cX3_init_2 114 = .ok (.aload_n 2, 1) := sorry
theorem dX3_init_2_115 : decode cX3_init_2 115 = .ok (.getfield 59, 3) := sorry
theorem dX3_init_2_118 : decode cX3_init_2 118 = .ok (.putfield 59, 3) := sorry
theorem dX3_init_2_121 : decode cX3_init_2 121 = .ok (.aload_n 0, 1) := sorry
theorem dX3_init_2_122 : decode cX3_init_2 122 = .ok (.aload_n 2, 1) := sorry
theorem dX3_init_2_123 : decode cX3_init_2 123 = .ok (.getfield 62, 3) := sorry
theorem dX3_init_2_126 : decode cX3_init_2 126 = .ok (.putfield 62, 3) := sorry
theorem dX3_init_2_129 : decode cX3_init_2 129 = .ok (.aload_n 0, 1) := sorry
theorem dX3_init_2_130 : decode cX3_init_2 130 = .ok (.aload_n 2, 1) := sorry
theorem dX3_init_2_131 : decode cX3_init_2 131 = .ok (.getfield 65, 3) := sorry
theorem dX3_init_2_134 : decode cX3_init_2 134 = .ok (.putfield 65, 3) := sorry
theorem dX3_init_2_137 : decode cX3_init_2 137 = .ok (.aload_n 2, 1) := sorry
theorem dX3_init_2_138 : decode cX3_init_2 138 = .ok (.getfield 15, 3) := sorry
theorem dX3_init_2_141 : decode cX3_init_2 141 = .ok (.iconst 0, 1) := sorry
theorem dX3_init_2_142 : decode cX3_init_2 142 = .ok (.aload_n 0, 1) := sorry
theorem dX3_init_2_143 : decode cX3_init_2 143 = .ok (.getfield 15, 3) := sorry
theorem dX3_init_2_146 : decode cX3_init_2 146 = .ok (.iconst 0, 1) := sorry
theorem dX3_init_2_147 : decode cX3_init_2 147 = .ok (.aload_n 0, 1) := sorry
theorem dX3_init_2_148 : decode cX3_init_2 148 = .ok (.getfield 15, 3) := sorry
theorem dX3_init_2_151 : decode cX3_init_2 151 = .ok (.arraylength, 1) := sorry
theorem dX3_init_2_152 : decode cX3_init_2 152 = .ok (.invokestatic 68, 3) := sorry
theorem dX3_init_2_155 : decode cX3_init_2 155 = .ok (.aload_n 0, 1) := sorry
theorem dX3_init_2_156 : decode cX3_init_2 156 = .ok (.aload_n 2, 1) := sorry
theorem dX3_init_2_157 : decode cX3_init_2 157 = .ok (.getfield 74, 3) := sorry
theorem dX3_init_2_160 : decode cX3_init_2 160 = .ok (.putfield 74, 3) := sorry
theorem dX3_init_2_163 : decode cX3_init_2 163 = .ok (.aload_n 0, 1) := sorry
theorem dX3_init_2_164 : decode cX3_init_2 164 = .ok (.aload_n 2, 1) := sorry
theorem dX3_init_2_165 : decode cX3_init_2 165 = .ok (.getfield 78, 3) := sorry
theorem dX3_init_2_168 : decode cX3_init_2 168 = .ok (.putfield 78, 3) := sorry
theorem dX3_init_2_171 : decode cX3_init_2 171 = .ok (.aload_n 0, 1) := sorry
theorem dX3_init_2_172 : decode cX3_init_2 172 = .ok (.aload_n 2, 1) := sorry
theorem dX3_init_2_173 : decode cX3_init_2 173 = .ok (.getfield 81, 3) := sorry
theorem dX3_init_2_176 : decode cX3_init_2 176 = .ok (.putfield 81, 3) := sorry
theorem dX3_init_2_179 : decode cX3_init_2 179 = .ok (.aload_n 0, 1) := sorry
theorem dX3_init_2_180 : decode cX3_init_2 180 = .ok (.aload_n 2, 1) := sorry
theorem dX3_init_2_181 : decode cX3_init_2 181 = .ok (.getfield 84, 3) := sorry
theorem dX3_init_2_184 : decode cX3_init_2 184 = .ok (.putfield 84, 3) := sorry
theorem dX3_init_2_187 : decode cX3_init_2 187 = .ok (.aload_n 0, 1) := sorry
theorem dX3_init_2_188 : decode cX3_init_2 188 = .ok (.aload_n 2, 1) := sorry
theorem dX3_init_2_189 : decode cX3_init_2 189 = .ok (.getfield 87, 3) := sorry
theorem dX3_init_2_192 : decode cX3_init_2 192 = .ok (.putfield 87, 3) := sorry
theorem dX3_init_2_195 : decode cX3_init_2 195 = .ok (.aload_n 0, 1) := sorry
theorem dX3_init_2_196 : decode cX3_init_2 196 = .ok (.aload_n 2, 1) := sorry
theorem dX3_init_2_197 : decode cX3_init_2 197 = .ok (.getfield 90, 3) := sorry
theorem dX3_init_2_200 : decode cX3_init_2 200 = .ok (.putfield 90, 3) := sorry
theorem dX3_init_2_203 : decode cX3_init_2 203 = .ok (.aload_n 2, 1) := sorry
theorem dX3_init_2_204 : decode cX3_init_2 204 = .ok (.getfield 19, 3) := sorry
theorem dX3_init_2_207 : decode cX3_init_2 207 = .ok (.iconst 0, 1) := sorry
theorem dX3_init_2_208 : decode cX3_init_2 208 = .ok (.aload_n 0, 1) := sorry
theorem dX3_init_2_209 : decode cX3_init_2 209 = .ok (.getfield 19, 3) := sorry
theorem dX3_init_2_212 : decode cX3_init_2 212 = .ok (.iconst 0, 1) := sorry
theorem dX3_init_2_213 : decode cX3_init_2 213 = .ok (.aload_n 0, 1) := sorry
theorem dX3_init_2_214 : decode cX3_init_2 214 = .ok (.getfield 19, 3) := sorry
theorem dX3_init_2_217 : decode cX3_init_2 217 = .ok (.arraylength, 1) := sorry
theorem dX3_init_2_218 : decode cX3_init_2 218 = .ok (.invokestatic 68, 3) := sorry
theorem dX3_init_2_221 : decode cX3_init_2 221 = .ok (.aload_n 2, 1) := sorry
theorem dX3_init_2_222 : decode cX3_init_2 222 = .ok (.getfield 22, 3) := sorry
theorem dX3_init_2_225 : decode cX3_init_2 225 = .ok (.iconst 0, 1) := sorry
theorem dX3_init_2_226 : decode cX3_init_2 226 = .ok (.aload_n 0, 1) := sorry
theorem dX3_init_2_227 : decode cX3_init_2 227 = .ok (.getfield 22, 3) := sorry
theorem dX3_init_2_230 : decode cX3_init_2 230 = .ok (.iconst 0, 1) := sorry
theorem dX3_init_2_231 : decode cX3_init_2 231 = .ok (.aload_n 0, 1) := sorry
theorem dX3_init_2_232 : decode cX3_init_2 232 = .ok (.getfield 22, 3) := sorry
theorem dX3_init_2_235 : decode cX3_init_2 235 = .ok (.arraylength, 1) := sorry
theorem dX3_init_2_236 : decode cX3_init_2 236 = .ok (.invokestatic 68, 3) := sorry
theorem dX3_init_2_239 : decode cX3_init_2 239 = .ok (.aload_n 2, 1) := sorry
theorem dX3_init_2_240 : decode cX3_init_2 240 = .ok (.getfield 25, 3) := sorry
theorem dX3_init_2_243 : decode cX3_init_2 243 = .ok (.iconst 0, 1) := sorry
theorem dX3_init_2_244 : decode cX3_init_2 244 = .ok (.aload_n 0, 1) := sorry
theorem dX3_init_2_245 : decode cX3_init_2 245 = .ok (.getfield 25, 3) := sorry
theorem dX3_init_2_248 : decode cX3_init_2 248 = .ok (.iconst 0, 1) := sorry
theorem dX3_init_2_249 : decode cX3_init_2 249 = .ok (.aload_n 0, 1) := sorry
theorem dX3_init_2_250 : decode cX3_init_2 250 = .ok (.getfield 25, 3) := sorry
theorem dX3_init_2_253 : decode cX3_init_2 253 = .ok (.arraylength, 1) := sorry
theorem dX3_init_2_254 : decode cX3_init_2 254 = .ok (.invokestatic 68, 3) := sorry
theorem dX3_init_2_257 : decode cX3_init_2 257 = .ok (.aload_n 2, 1) := sorry
theorem dX3_init_2_258 : decode cX3_init_2 258 = .ok (.getfield 33, 3) := sorry
theorem dX3_init_2_261 : decode cX3_init_2 261 = .ok (.invokevirtual 93, 3) := sorry
theorem dX3_init_2_264 : decode cX3_init_2 264 = .ok (.astore_n 3, 1) := sorry
theorem dX3_init_2_265 : decode cX3_init_2 265 = .ok (.aload_n 3, 1) := sorry
theorem dX3_init_2_266 : decode cX3_init_2 266 = .ok (.invokeinterface 97 1, 5) := sorry
theorem dX3_init_2_271 : decode cX3_init_2 271 = .ok (.ifCond .eq 26, 3) := sorry
theorem dX3_init_2_274 : decode cX3_init_2 274 = .ok (.aload_n 3, 1) := sorry
theorem dX3_init_2_275 : decode cX3_init_2 275 = .ok (.invokeinterface 103 1, 5) := sorry
theorem dX3_init_2_280 : decode cX3_init_2 280 = .ok (.checkcast 107, 3) := sorry
theorem dX3_init_2_283 : decode cX3_init_2 283 = .ok (.astore 4, 2) := sorry
theorem dX3_init_2_285 : decode cX3_init_2 285 = .ok (.aload_n 0, 1) := sorry
theorem dX3_init_2_286 : decode cX3_init_2 286 = .ok (.getfield 33, 3) := sorry
theorem dX3_init_2_289 : decode cX3_init_2 289 = .ok (.aload 4, 2) := sorry
theorem dX3_init_2_291 : decode cX3_init_2 291 = .ok (.invokevirtual 109, 3) := sorry
theorem dX3_init_2_294 : decode cX3_init_2 294 = .ok (.goto (-29), 3) := sorry
theorem dX3_init_2_297 : decode cX3_init_2 297 = .ok (.return_, 1) := sorry
abbrev cX3_feedTo : ByteArray := prog_11_method_5_code
def yX3_feedTo : MethodName := ⟨RX3, "feedTo", "(I)V"⟩
def dkwX3_feedTo_1 : List UInt8 := [180, 0, 50, 27, 100, 96, 79, 42, 27, 181, 0, 50, 177]
abbrev dktX3_feedTo_1 : List UInt8 := dkwX3_feedTo_1 ++ []
def dkwX3_feedTo_0 : List UInt8 := [42, 180, 0, 50, 27, 162, 0, 10, 42, 182, 0, 132, 167, 255, 244, 42, 180, 0, 25, 8, 92, 46, 42]
abbrev dktX3_feedTo_0 : List UInt8 := dkwX3_feedTo_0 ++ dktX3_feedTo_1
theorem dksX3_feedTo_0 : cX3_feedTo.data.toList.drop 0 = dktX3_feedTo_0 := sorry
theorem dksX3_feedTo_1 : cX3_feedTo.data.toList.drop 23 = dktX3_feedTo_1 := sorry
theorem dX3_feedTo_0 : decode cX3_feedTo 0 = .ok (.aload_n 0, 1) := sorry
theorem dX3_feedTo_1 : decode cX3_feedTo 1 = .ok (.getfield 50, 3) := sorry
theorem dX3_feedTo_4 : decode cX3_feedTo 4 = .ok (.iload_n 1, 1) := sorry
theorem dX3_feedTo_5 : decode cX3_feedTo 5 = .ok (.if_icmp .ge 10, 3) := sorry
theorem dX3_feedTo_8 : decode cX3_feedTo 8 = .ok (.aload_n 0, 1) := sorry
theorem dX3_feedTo_9 : decode cX3_feedTo 9 = .ok (.invokevirtual 132, 3) := sorry
theorem dX3_feedTo_12 : decode cX3_feedTo 12 = .ok (.goto (-12), 3) := sorry
theorem dX3_feedTo_15 : decode cX3_feedTo 15 = .ok (.aload_n 0, 1) := sorry
theorem dX3_feedTo_16 : decode cX3_feedTo 16 = .ok (.getfield 25, 3) := sorry
theorem dX3_feedTo_19 : decode cX3_feedTo 19 = .ok (.iconst 5, 1) := sorry
theorem dX3_feedTo_20 : decode cX3_feedTo 20 = .ok (.dup2, 1) := sorry
theorem dX3_feedTo_21 : decode cX3_feedTo 21 = .ok (.iaload, 1) := sorry
theorem dX3_feedTo_22 : decode cX3_feedTo 22 = .ok (.aload_n 0, 1) := sorry
theorem dX3_feedTo_23 : decode cX3_feedTo 23 = .ok (.getfield 50, 3) := sorry
theorem dX3_feedTo_26 : decode cX3_feedTo 26 = .ok (.iload_n 1, 1) := sorry
theorem dX3_feedTo_27 : decode cX3_feedTo 27 = .ok (.isub, 1) := sorry
theorem dX3_feedTo_28 : decode cX3_feedTo 28 = .ok (.iadd, 1) := sorry
theorem dX3_feedTo_29 : decode cX3_feedTo 29 = .ok (.iastore, 1) := sorry
theorem dX3_feedTo_30 : decode cX3_feedTo 30 = .ok (.aload_n 0, 1) := sorry
theorem dX3_feedTo_31 : decode cX3_feedTo 31 = .ok (.iload_n 1, 1) := sorry
theorem dX3_feedTo_32 : decode cX3_feedTo 32 = .ok (.putfield 50, 3) := sorry
theorem dX3_feedTo_35 : decode cX3_feedTo 35 = .ok (.return_, 1) := sorry
abbrev cX3_forward : ByteArray := prog_11_method_4_code
def yX3_forward : MethodName := ⟨RX3, "forward", "()V"⟩
def dkwX3_forward_1 : List UInt8 := [181, 0, 50, 177]
abbrev dktX3_forward_1 : List UInt8 := dkwX3_forward_1 ++ []
def dkwX3_forward_0 : List UInt8 := [42, 42, 180, 0, 53, 42, 182, 0, 122, 184, 0, 126, 181, 0, 53, 42, 89, 180, 0, 50, 4, 96]
abbrev dktX3_forward_0 : List UInt8 := dkwX3_forward_0 ++ dktX3_forward_1
theorem dksX3_forward_0 : cX3_forward.data.toList.drop 0 = dktX3_forward_0 := sorry
theorem dksX3_forward_1 : cX3_forward.data.toList.drop 22 = dktX3_forward_1 := sorry
theorem dX3_forward_0 : decode cX3_forward 0 = .ok (.aload_n 0, 1) := sorry
theorem dX3_forward_1 : decode cX3_forward 1 = .ok (.aload_n 0, 1) := sorry
theorem dX3_forward_2 : decode cX3_forward 2 = .ok (.getfield 53, 3) := sorry
theorem dX3_forward_5 : decode cX3_forward 5 = .ok (.aload_n 0, 1) := sorry
theorem dX3_forward_6 : decode cX3_forward 6 = .ok (.invokevirtual 122, 3) := sorry
theorem dX3_forward_9 : decode cX3_forward 9 = .ok (.invokestatic 126, 3) := sorry
theorem dX3_forward_12 : decode cX3_forward 12 = .ok (.putfield 53, 3) := sorry
theorem dX3_forward_15 : decode cX3_forward 15 = .ok (.aload_n 0, 1) := sorry
theorem dX3_forward_16 : decode cX3_forward 16 = .ok (.dup, 1) := sorry
theorem dX3_forward_17 : decode cX3_forward 17 = .ok (.getfield 50, 3) := sorry
theorem dX3_forward_20 : decode cX3_forward 20 = .ok (.iconst 1, 1) := sorry
theorem dX3_forward_21 : decode cX3_forward 21 = .ok (.iadd, 1) := sorry
theorem dX3_forward_22 : decode cX3_forward 22 = .ok (.putfield 50, 3) := sorry
theorem dX3_forward_25 : decode cX3_forward 25 = .ok (.return_, 1) := sorry
abbrev cX3_underSensor : ByteArray := prog_11_method_3_code
def yX3_underSensor : MethodName := ⟨RX3, "underSensor", "()I"⟩
def dkwX3_underSensor_0 : List UInt8 := [42, 180, 0, 50, 42, 180, 0, 3, 180, 0, 113, 180, 0, 117, 96, 172]
abbrev dktX3_underSensor_0 : List UInt8 := dkwX3_underSensor_0 ++ []
theorem dksX3_underSensor_0 : cX3_underSensor.data.toList.drop 0 = dktX3_underSensor_0 := sorry
theorem dX3_underSensor_0 : decode cX3_underSensor 0 = .ok (.aload_n 0, 1) := sorry
theorem dX3_underSensor_1 : decode cX3_underSensor 1 = .ok (.getfield 50, 3) := sorry
theorem dX3_underSensor_4 : decode cX3_underSensor 4 = .ok (.aload_n 0, 1) := sorry
theorem dX3_underSensor_5 : decode cX3_underSensor 5 = .ok (.getfield 3, 3) := sorry
theorem dX3_underSensor_8 : decode cX3_underSensor 8 = .ok (.getfield 113, 3) := sorry
theorem dX3_underSensor_11 : decode cX3_underSensor 11 = .ok (.getfield 117, 3) := sorry
theorem dX3_underSensor_14 : decode cX3_underSensor 14 = .ok (.iadd, 1) := sorry
theorem dX3_underSensor_15 : decode cX3_underSensor 15 = .ok (.ireturn, 1) := sorry
abbrev cX3_learn : ByteArray := prog_11_method_10_code
def yX3_learn : MethodName := ⟨RX3, "learn", "()V"⟩
def dkwX3_learn_5 : List UInt8 := [182, 0, 154, 42, 4, 181, 0, 74, 177]
abbrev dktX3_learn_5 : List UInt8 := dkwX3_learn_5 ++ []
def dkwX3_learn_4 : List UInt8 := [180, 0, 90, 42, 180, 0, 84, 42, 180, 0, 87, 96, 96, 181, 0, 90, 167, 255, 227, 42, 42, 180, 0, 90]
abbrev dktX3_learn_4 : List UInt8 := dkwX3_learn_4 ++ dktX3_learn_5
def dkwX3_learn_3 : List UInt8 := [29, 182, 0, 160, 42, 27, 29, 182, 0, 164, 42, 180, 0, 90, 42, 180, 0, 50, 162, 0, 24, 42, 89]
abbrev dktX3_learn_3 : List UInt8 := dkwX3_learn_3 ++ dktX3_learn_4
def dkwX3_learn_2 : List UInt8 := [17, 2, 188, 162, 0, 11, 187, 0, 157, 89, 183, 0, 159, 191, 27, 17, 2, 188, 96, 4, 100, 62, 42, 27]
abbrev dktX3_learn_2 : List UInt8 := dkwX3_learn_2 ++ dktX3_learn_3
def dkwX3_learn_1 : List UInt8 := [180, 0, 50, 100, 184, 0, 151, 184, 0, 126, 61, 42, 42, 180, 0, 50, 28, 96, 182, 0, 154, 28]
abbrev dktX3_learn_1 : List UInt8 := dkwX3_learn_1 ++ dktX3_learn_2
def dkwX3_learn_0 : List UInt8 := [42, 3, 181, 0, 74, 42, 182, 0, 122, 60, 3, 17, 2, 188, 42, 180, 0, 37, 182, 0, 148, 42]
abbrev dktX3_learn_0 : List UInt8 := dkwX3_learn_0 ++ dktX3_learn_1
theorem dksX3_learn_0 : cX3_learn.data.toList.drop 0 = dktX3_learn_0 := sorry
theorem dksX3_learn_1 : cX3_learn.data.toList.drop 22 = dktX3_learn_1 := sorry
theorem dksX3_learn_2 : cX3_learn.data.toList.drop 44 = dktX3_learn_2 := sorry
theorem dksX3_learn_3 : cX3_learn.data.toList.drop 68 = dktX3_learn_3 := sorry
theorem dksX3_learn_4 : cX3_learn.data.toList.drop 91 = dktX3_learn_4 := sorry
theorem dksX3_learn_5 : cX3_learn.data.toList.drop 115 = dktX3_learn_5 := sorry
theorem dX3_learn_0 : decode cX3_learn 0 = .ok (.aload_n 0, 1) := sorry
theorem dX3_learn_1 : decode cX3_learn 1 = .ok (.iconst 0, 1) := sorry
theorem dX3_learn_2 : decode cX3_learn 2 = .ok (.putfield 74, 3) := sorry
theorem dX3_learn_5 : decode cX3_learn 5 = .ok (.aload_n 0, 1) := sorry
theorem dX3_learn_6 : decode cX3_learn 6 = .ok (.invokevirtual 122, 3) := sorry
theorem dX3_learn_9 : decode cX3_learn 9 = .ok (.istore_n 1, 1) := sorry
theorem dX3_learn_10 : decode cX3_learn 10 = .ok (.iconst 0, 1) := sorry
theorem dX3_learn_11 : decode cX3_learn 11 = .ok (.sipush 700, 3) := sorry
theorem dX3_learn_14 : decode cX3_learn 14 = .ok (.aload_n 0, 1) := sorry
theorem dX3_learn_15 : decode cX3_learn 15 = .ok (.getfield 37, 3) := sorry
theorem dX3_learn_18 : decode cX3_learn 18 = .ok (.invokevirtual 148, 3) := sorry
theorem dX3_learn_21 : decode cX3_learn 21 = .ok (.aload_n 0, 1) := sorry
theorem dX3_learn_22 : decode cX3_learn 22 = .ok (.getfield 50, 3) := sorry
theorem dX3_learn_25 : decode cX3_learn 25 = .ok (.isub, 1) := sorry
theorem dX3_learn_26 : decode cX3_learn 26 = .ok (.invokestatic 151, 3) := sorry
theorem dX3_learn_29 : decode cX3_learn 29 = .ok (.invokestatic 126, 3) := sorry
theorem dX3_learn_32 : decode cX3_learn 32 = .ok (.istore_n 2, 1) := sorry
theorem dX3_learn_33 : decode cX3_learn 33 = .ok (.aload_n 0, 1) := sorry
theorem dX3_learn_34 : decode cX3_learn 34 = .ok (.aload_n 0, 1) := sorry
theorem dX3_learn_35 : decode cX3_learn 35 = .ok (.getfield 50, 3) := sorry
theorem dX3_learn_38 : decode cX3_learn 38 = .ok (.iload_n 2, 1) := sorry
theorem dX3_learn_39 : decode cX3_learn 39 = .ok (.iadd, 1) := sorry
theorem dX3_learn_40 : decode cX3_learn 40 = .ok (.invokevirtual 154, 3) := sorry
theorem dX3_learn_43 : decode cX3_learn 43 = .ok (.iload_n 2, 1) := sorry
theorem dX3_learn_44 : decode cX3_learn 44 = .ok (.sipush 700, 3) := sorry
theorem dX3_learn_47 : decode cX3_learn 47 = .ok (.if_icmp .ge 11, 3) := sorry
theorem dX3_learn_50 : decode cX3_learn 50 = .ok (.new 157, 3) := sorry
theorem dX3_learn_53 : decode cX3_learn 53 = .ok (.dup, 1) := sorry
theorem dX3_learn_54 : decode cX3_learn 54 = .ok (.invokespecial 159, 3) := sorry
theorem dX3_learn_57 : decode cX3_learn 57 = .ok (.athrow, 1) := sorry
theorem dX3_learn_58 : decode cX3_learn 58 = .ok (.iload_n 1, 1) := sorry
theorem dX3_learn_59 : decode cX3_learn 59 = .ok (.sipush 700, 3) := sorry
theorem dX3_learn_62 : decode cX3_learn 62 = .ok (.iadd, 1) := sorry
theorem dX3_learn_63 : decode cX3_learn 63 = .ok (.iconst 1, 1) := sorry
theorem dX3_learn_64 : decode cX3_learn 64 = .ok (.isub, 1) := sorry
theorem dX3_learn_65 : decode cX3_learn 65 = .ok (.istore_n 3, 1) := sorry
theorem dX3_learn_66 : decode cX3_learn 66 = .ok (.aload_n 0, 1) := sorry
theorem dX3_learn_67 : decode cX3_learn 67 = .ok (.iload_n 1, 1) := sorry
theorem dX3_learn_68 : decode cX3_learn 68 = .ok (.iload_n 3, 1) := sorry
theorem dX3_learn_69 : decode cX3_learn 69 = .ok (.invokevirtual 160, 3) := sorry
theorem dX3_learn_72 : decode cX3_learn 72 = .ok (.aload_n 0, 1) := sorry
theorem dX3_learn_73 : decode cX3_learn 73 = .ok (.iload_n 1, 1) := sorry
theorem dX3_learn_74 : decode cX3_learn 74 = .ok (.iload_n 3, 1) := sorry
theorem dX3_learn_75 : decode cX3_learn 75 = .ok (.invokevirtual 164, 3) := sorry
theorem dX3_learn_78 : decode cX3_learn 78 = .ok (.aload_n 0, 1) := sorry
theorem dX3_learn_79 : decode cX3_learn 79 = .ok (.getfield 90, 3) := sorry
theorem dX3_learn_82 : decode cX3_learn 82 = .ok (.aload_n 0, 1) := sorry
theorem dX3_learn_83 : decode cX3_learn 83 = .ok (.getfield 50, 3) := sorry
theorem dX3_learn_86 : decode cX3_learn 86 = .ok (.if_icmp .ge 24, 3) := sorry
theorem dX3_learn_89 : decode cX3_learn 89 = .ok (.aload_n 0, 1) := sorry
theorem dX3_learn_90 : decode cX3_learn 90 = .ok (.dup, 1) := sorry
theorem dX3_learn_91 : decode cX3_learn 91 = .ok (.getfield 90, 3) := sorry
theorem dX3_learn_94 : decode cX3_learn 94 = .ok (.aload_n 0, 1) := sorry
theorem dX3_learn_95 : decode cX3_learn 95 = .ok (.getfield 84, 3) := sorry
theorem dX3_learn_98 : decode cX3_learn 98 = .ok (.aload_n 0, 1) := sorry
theorem dX3_learn_99 : decode cX3_learn 99 = .ok (.getfield 87, 3) := sorry
theorem dX3_learn_102 : decode cX3_learn 102 = .ok (.iadd, 1) := sorry
theorem dX3_learn_103 : decode cX3_learn 103 = .ok (.iadd, 1) := sorry
theorem dX3_learn_104 : decode cX3_learn 104 = .ok (.putfield 90, 3) := sorry
theorem dX3_learn_107 : decode cX3_learn 107 = .ok (.goto (-29), 3) := sorry
theorem dX3_learn_110 : decode cX3_learn 110 = .ok (.aload_n 0, 1) := sorry
theorem dX3_learn_111 : decode cX3_learn 111 = .ok (.aload_n 0, 1) := sorry
theorem dX3_learn_112 : decode cX3_learn 112 = .ok (.getfield 90, 3) := sorry
theorem dX3_learn_115 : decode cX3_learn 115 = .ok (.invokevirtual 154, 3) := sorry
theorem dX3_learn_118 : decode cX3_learn 118 = .ok (.aload_n 0, 1) := sorry
theorem dX3_learn_119 : decode cX3_learn 119 = .ok (.iconst 1, 1) := sorry
theorem dX3_learn_120 : decode cX3_learn 120 = .ok (.putfield 74, 3) := sorry
theorem dX3_learn_123 : decode cX3_learn 123 = .ok (.return_, 1) := sorry
abbrev cX3_setThreshold : ByteArray := prog_11_method_11_code
def yX3_setThreshold : MethodName := ⟨RX3, "setThreshold", "(II)V"⟩
def dkwX3_setThreshold_6 : List UInt8 := [181, 0, 78, 177]
abbrev dktX3_setThreshold_6 : List UInt8 := dkwX3_setThreshold_6 ++ []
def dkwX3_setThreshold_5 : List UInt8 := [132, 6, 1, 167, 255, 221, 42, 5, 21, 5, 104, 28, 27, 100, 4, 96, 163, 0, 7, 4, 167, 0, 4, 3]
abbrev dktX3_setThreshold_5 : List UInt8 := dkwX3_setThreshold_5 ++ dktX3_setThreshold_6
def dkwX3_setThreshold_4 : List UInt8 := [180, 0, 37, 21, 6, 182, 0, 135, 42, 180, 0, 81, 164, 0, 7, 4, 167, 0, 4, 3, 96, 54, 5]
abbrev dktX3_setThreshold_4 : List UInt8 := dkwX3_setThreshold_4 ++ dktX3_setThreshold_5
def dkwX3_setThreshold_3 : List UInt8 := [29, 21, 4, 96, 5, 108, 181, 0, 81, 3, 54, 5, 27, 54, 6, 21, 6, 28, 163, 0, 35, 21, 5, 42]
abbrev dktX3_setThreshold_3 : List UInt8 := dkwX3_setThreshold_3 ++ dktX3_setThreshold_4
def dkwX3_setThreshold_2 : List UInt8 := [132, 5, 1, 167, 255, 217, 21, 4, 29, 100, 16, 20, 162, 0, 11, 187, 0, 167, 89, 183, 0, 169, 191, 42]
abbrev dktX3_setThreshold_2 : List UInt8 := dkwX3_setThreshold_2 ++ dktX3_setThreshold_3
def dkwX3_setThreshold_1 : List UInt8 := [182, 0, 135, 184, 0, 151, 62, 21, 4, 42, 180, 0, 37, 21, 5, 182, 0, 135, 184, 0, 126, 54, 4]
abbrev dktX3_setThreshold_1 : List UInt8 := dkwX3_setThreshold_1 ++ dktX3_setThreshold_2
def dkwX3_setThreshold_0 : List UInt8 := [17, 0, 255, 62, 3, 54, 4, 27, 54, 5, 21, 5, 28, 163, 0, 39, 29, 42, 180, 0, 37, 21, 5]
abbrev dktX3_setThreshold_0 : List UInt8 := dkwX3_setThreshold_0 ++ dktX3_setThreshold_1
theorem dksX3_setThreshold_0 : cX3_setThreshold.data.toList.drop 0 = dktX3_setThreshold_0 := sorry
theorem dksX3_setThreshold_1 : cX3_setThreshold.data.toList.drop 23 = dktX3_setThreshold_1 := sorry
theorem dksX3_setThreshold_2 : cX3_setThreshold.data.toList.drop 46 = dktX3_setThreshold_2 := sorry
theorem dksX3_setThreshold_3 : cX3_setThreshold.data.toList.drop 70 = dktX3_setThreshold_3 := sorry
theorem dksX3_setThreshold_4 : cX3_setThreshold.data.toList.drop 94 = dktX3_setThreshold_4 := sorry
theorem dksX3_setThreshold_5 : cX3_setThreshold.data.toList.drop 117 = dktX3_setThreshold_5 := sorry
theorem dksX3_setThreshold_6 : cX3_setThreshold.data.toList.drop 141 = dktX3_setThreshold_6 := sorry
theorem dX3_setThreshold_0 : decode cX3_setThreshold 0 = .ok (.sipush 255, 3) := sorry
theorem dX3_setThreshold_3 : decode cX3_setThreshold 3 = .ok (.istore_n 3, 1) := sorry
theorem dX3_setThreshold_4 : decode cX3_setThreshold 4 = .ok (.iconst 0, 1) := sorry
theorem dX3_setThreshold_5 : decode cX3_setThreshold 5 = .ok (.istore 4, 2) := sorry
theorem dX3_setThreshold_7 : decode cX3_setThreshold 7 = .ok (.iload_n 1, 1) := sorry
theorem dX3_setThreshold_8 : decode cX3_setThreshold 8 = .ok (.istore 5, 2) := sorry
theorem dX3_setThreshold_10 : decode cX3_setThreshold 10 = .ok (.iload 5, 2) := sorry
theorem dX3_setThreshold_12 : decode cX3_setThreshold 12 = .ok (.iload_n 2, 1) := sorry
theorem dX3_setThreshold_13 : decode cX3_setThreshold 13 = .ok (.if_icmp .gt 39, 3) := sorry
theorem dX3_setThreshold_16 : decode cX3_setThreshold 16 = .ok (.iload_n 3, 1) := sorry
theorem dX3_setThreshold_17 : decode cX3_setThreshold 17 = .ok (.aload_n 0, 1) := sorry
theorem dX3_setThreshold_18 : decode cX3_setThreshold 18 = .ok (.getfield 37, 3) := sorry
theorem dX3_setThreshold_21 : decode cX3_setThreshold 21 = .ok (.iload 5, 2) := sorry
theorem dX3_setThreshold_23 : decode cX3_setThreshold 23 = .ok (.invokevirtual 135, 3) := sorry
theorem dX3_setThreshold_26 : decode cX3_setThreshold 26 = .ok (.invokestatic 151, 3) := sorry
theorem dX3_setThreshold_29 : decode cX3_setThreshold 29 = .ok (.istore_n 3, 1) := sorry
theorem dX3_setThreshold_30 : decode cX3_setThreshold 30 = .ok (.iload 4, 2) := sorry
theorem dX3_setThreshold_32 : decode cX3_setThreshold 32 = .ok (.aload_n 0, 1) := sorry
theorem dX3_setThreshold_33 : decode cX3_setThreshold 33 = .ok (.getfield 37, 3) := sorry
theorem dX3_setThreshold_36 : decode cX3_setThreshold 36 = .ok (.iload 5, 2) := sorry
theorem dX3_setThreshold_38 : decode cX3_setThreshold 38 = .ok (.invokevirtual 135, 3) := sorry
theorem dX3_setThreshold_41 : decode cX3_setThreshold 41 = .ok (.invokestatic 126, 3) := sorry
theorem dX3_setThreshold_44 : decode cX3_setThreshold 44 = .ok (.istore 4, 2) := sorry
theorem dX3_setThreshold_46 : decode cX3_setThreshold 46 = .ok (.iinc 5 1, 3) := sorry
theorem dX3_setThreshold_49 : decode cX3_setThreshold 49 = .ok (.goto (-39), 3) := sorry
theorem dX3_setThreshold_52 : decode cX3_setThreshold 52 = .ok (.iload 4, 2) := sorry
theorem dX3_setThreshold_54 : decode cX3_setThreshold 54 = .ok (.iload_n 3, 1) := sorry
theorem dX3_setThreshold_55 : decode cX3_setThreshold 55 = .ok (.isub, 1) := sorry
theorem dX3_setThreshold_56 : decode cX3_setThreshold 56 = .ok (.bipush 20, 2) := sorry
theorem dX3_setThreshold_58 : decode cX3_setThreshold 58 = .ok (.if_icmp .ge 11, 3) := sorry
theorem dX3_setThreshold_61 : decode cX3_setThreshold 61 = .ok (.new 167, 3) := sorry
theorem dX3_setThreshold_64 : decode cX3_setThreshold 64 = .ok (.dup, 1) := sorry
theorem dX3_setThreshold_65 : decode cX3_setThreshold 65 = .ok (.invokespecial 169, 3) := sorry
theorem dX3_setThreshold_68 : decode cX3_setThreshold 68 = .ok (.athrow, 1) := sorry
theorem dX3_setThreshold_69 : decode cX3_setThreshold 69 = .ok (.aload_n 0, 1) := sorry
theorem dX3_setThreshold_70 : decode cX3_setThreshold 70 = .ok (.iload_n 3, 1) := sorry
theorem dX3_setThreshold_71 : decode cX3_setThreshold 71 = .ok (.iload 4, 2) := sorry
theorem dX3_setThreshold_73 : decode cX3_setThreshold 73 = .ok (.iadd, 1) := sorry
theorem dX3_setThreshold_74 : decode cX3_setThreshold 74 = .ok (.iconst 2, 1) := sorry
theorem dX3_setThreshold_75 : decode cX3_setThreshold 75 = .ok (.idiv, 1) := sorry
theorem dX3_setThreshold_76 : decode cX3_setThreshold 76 = .ok (.putfield 81, 3) := sorry
theorem dX3_setThreshold_79 : decode cX3_setThreshold 79 = .ok (.iconst 0, 1) := sorry
theorem dX3_setThreshold_80 : decode cX3_setThreshold 80 = .ok (.istore 5, 2) := sorry
theorem dX3_setThreshold_82 : decode cX3_setThreshold 82 = .ok (.iload_n 1, 1) := sorry
theorem dX3_setThreshold_83 : decode cX3_setThreshold 83 = .ok (.istore 6, 2) := sorry
theorem dX3_setThreshold_85 : decode cX3_setThreshold 85 = .ok (.iload 6, 2) := sorry
theorem dX3_setThreshold_87 : decode cX3_setThreshold 87 = .ok (.iload_n 2, 1) := sorry
theorem dX3_setThreshold_88 : decode cX3_setThreshold 88 = .ok (.if_icmp .gt 35, 3) := sorry
theorem dX3_setThreshold_91 : decode cX3_setThreshold 91 = .ok (.iload 5, 2) := sorry
theorem dX3_setThreshold_93 : decode cX3_setThreshold 93 = .ok (.aload_n 0, 1) := sorry
theorem dX3_setThreshold_94 : decode cX3_setThreshold 94 = .ok (.getfield 37, 3) := sorry
theorem dX3_setThreshold_97 : decode cX3_setThreshold 97 = .ok (.iload 6, 2) := sorry
theorem dX3_setThreshold_99 : decode cX3_setThreshold 99 = .ok (.invokevirtual 135, 3) := sorry
theorem dX3_setThreshold_102 : decode cX3_setThreshold 102 = .ok (.aload_n 0, 1) := sorry
theorem dX3_setThreshold_103 : decode cX3_setThreshold 103 = .ok (.getfield 81, 3) := sorry
theorem dX3_setThreshold_106 : decode cX3_setThreshold 106 = .ok (.if_icmp .le 7, 3) := sorry
theorem dX3_setThreshold_109 : decode cX3_setThreshold 109 = .ok (.iconst 1, 1) := sorry
theorem dX3_setThreshold_110 : decode cX3_setThreshold 110 = .ok (.goto 4, 3) := sorry
theorem dX3_setThreshold_113 : decode cX3_setThreshold 113 = .ok (.iconst 0, 1) := sorry
theorem dX3_setThreshold_114 : decode cX3_setThreshold 114 = .ok (.iadd, 1) := sorry
theorem dX3_setThreshold_115 : decode cX3_setThreshold 115 = .ok (.istore 5, 2) := sorry
theorem dX3_setThreshold_117 : decode cX3_setThreshold 117 = .ok (.iinc 6 1, 3) := sorry
theorem dX3_setThreshold_120 : decode cX3_setThreshold 120 = .ok (.goto (-35), 3) := sorry
theorem dX3_setThreshold_123 : decode cX3_setThreshold 123 = .ok (.aload_n 0, 1) := sorry
theorem dX3_setThreshold_124 : decode cX3_setThreshold 124 = .ok (.iconst 2, 1) := sorry
theorem dX3_setThreshold_125 : decode cX3_setThreshold 125 = .ok (.iload 5, 2) := sorry
theorem dX3_setThreshold_127 : decode cX3_setThreshold 127 = .ok (.imul, 1) := sorry
theorem dX3_setThreshold_128 : decode cX3_setThreshold 128 = .ok (.iload_n 2, 1) := sorry
theorem dX3_setThreshold_129 : decode cX3_setThreshold 129 = .ok (.iload_n 1, 1) := sorry
theorem dX3_setThreshold_130 : decode cX3_setThreshold 130 = .ok (.isub, 1) := sorry
theorem dX3_setThreshold_131 : decode cX3_setThreshold 131 = .ok (.iconst 1, 1) := sorry
theorem dX3_setThreshold_132 : decode cX3_setThreshold 132 = .ok (.iadd, 1) := sorry
theorem dX3_setThreshold_133 : decode cX3_setThreshold 133 = .ok (.if_icmp .gt 7, 3) := sorry
theorem dX3_setThreshold_136 : decode cX3_setThreshold 136 = .ok (.iconst 1, 1) := sorry
theorem dX3_setThreshold_137 : decode cX3_setThreshold 137 = .ok (.goto 4, 3) := sorry
theorem dX3_setThreshold_140 : decode cX3_setThreshold 140 = .ok (.iconst 0, 1) := sorry
theorem dX3_setThreshold_141 : decode cX3_setThreshold 141 = .ok (.putfield 78, 3) := sorry
theorem dX3_setThreshold_144 : decode cX3_setThreshold 144 = .ok (.return_, 1) := sorry
abbrev cX3_findPitch : ByteArray := prog_11_method_12_code
def yX3_findPitch : MethodName := ⟨RX3, "findPitch", "(II)V"⟩
def dkwX3_findPitch_5 : List UInt8 := [180, 0, 87, 100, 181, 0, 84, 42, 42, 21, 4, 28, 182, 0, 179, 181, 0, 90, 177]
abbrev dktX3_findPitch_5 : List UInt8 := dkwX3_findPitch_5 ++ []
def dkwX3_findPitch_4 : List UInt8 := [89, 1, 183, 0, 184, 191, 42, 42, 29, 28, 182, 0, 179, 29, 100, 181, 0, 87, 42, 21, 5, 29, 100, 42]
abbrev dktX3_findPitch_4 : List UInt8 := dkwX3_findPitch_4 ++ dktX3_findPitch_5
def dkwX3_findPitch_3 : List UInt8 := [29, 2, 160, 0, 6, 21, 7, 62, 21, 7, 54, 4, 167, 255, 190, 21, 5, 2, 160, 0, 12, 187, 0, 182]
abbrev dktX3_findPitch_3 : List UInt8 := dkwX3_findPitch_3 ++ dktX3_findPitch_4
def dkwX3_findPitch_2 : List UInt8 := [21, 5, 2, 160, 0, 7, 21, 7, 54, 5, 42, 21, 7, 28, 182, 0, 179, 28, 164, 0, 6, 167, 255, 205]
abbrev dktX3_findPitch_2 : List UInt8 := dkwX3_findPitch_2 ++ dktX3_findPitch_3
def dkwX3_findPitch_1 : List UInt8 := [153, 0, 62, 25, 6, 185, 0, 103, 1, 0, 192, 0, 174, 182, 0, 176, 54, 7, 29, 2, 159, 0, 13]
abbrev dktX3_findPitch_1 : List UInt8 := dkwX3_findPitch_1 ++ dktX3_findPitch_2
def dkwX3_findPitch_0 : List UInt8 := [2, 62, 2, 54, 4, 2, 54, 5, 42, 27, 28, 182, 0, 170, 58, 6, 25, 6, 185, 0, 97, 1, 0]
abbrev dktX3_findPitch_0 : List UInt8 := dkwX3_findPitch_0 ++ dktX3_findPitch_1
theorem dksX3_findPitch_0 : cX3_findPitch.data.toList.drop 0 = dktX3_findPitch_0 := sorry
theorem dksX3_findPitch_1 : cX3_findPitch.data.toList.drop 23 = dktX3_findPitch_1 := sorry
theorem dksX3_findPitch_2 : cX3_findPitch.data.toList.drop 46 = dktX3_findPitch_2 := sorry
theorem dksX3_findPitch_3 : cX3_findPitch.data.toList.drop 70 = dktX3_findPitch_3 := sorry
theorem dksX3_findPitch_4 : cX3_findPitch.data.toList.drop 94 = dktX3_findPitch_4 := sorry
theorem dksX3_findPitch_5 : cX3_findPitch.data.toList.drop 118 = dktX3_findPitch_5 := sorry
theorem dX3_findPitch_0 : decode cX3_findPitch 0 = .ok (.iconst (-1), 1) := sorry
theorem dX3_findPitch_1 : decode cX3_findPitch 1 = .ok (.istore_n 3, 1) := sorry
theorem dX3_findPitch_2 : decode cX3_findPitch 2 = .ok (.iconst (-1), 1) := sorry
theorem dX3_findPitch_3 : decode cX3_findPitch 3 = .ok (.istore 4, 2) := sorry
theorem dX3_findPitch_5 : decode cX3_findPitch 5 = .ok (.iconst (-1), 1) := sorry
theorem dX3_findPitch_6 : decode cX3_findPitch 6 = .ok (.istore 5, 2) := sorry
theorem dX3_findPitch_8 : decode cX3_findPitch 8 = .ok (.aload_n 0, 1) := sorry
theorem dX3_findPitch_9 : decode cX3_findPitch 9 = .ok (.iload_n 1, 1) := sorry
theorem dX3_findPitch_10 : decode cX3_findPitch 10 = .ok (.iload_n 2, 1) := sorry
theorem dX3_findPitch_11 : decode cX3_findPitch 11 = .ok (.invokevirtual 170, 3) := sorry
theorem dX3_findPitch_14 : decode cX3_findPitch 14 = .ok (.astore 6, 2) := sorry
theorem dX3_findPitch_16 : decode cX3_findPitch 16 = .ok (.aload 6, 2) := sorry
theorem dX3_findPitch_18 : decode cX3_findPitch 18 = .ok (.invokeinterface 97 1, 5) := sorry
theorem dX3_findPitch_23 : decode cX3_findPitch 23 = .ok (.ifCond .eq 62, 3) := sorry
theorem dX3_findPitch_26 : decode cX3_findPitch 26 = .ok (.aload 6, 2) := sorry
theorem dX3_findPitch_28 : decode cX3_findPitch 28 = .ok (.invokeinterface 103 1, 5) := sorry
theorem dX3_findPitch_33 : decode cX3_findPitch 33 = .ok (.checkcast 174, 3) := sorry
theorem dX3_findPitch_36 : decode cX3_findPitch 36 = .ok (.invokevirtual 176, 3) := sorry
theorem dX3_findPitch_39 : decode cX3_findPitch 39 = .ok (.istore 7, 2) := sorry
theorem dX3_findPitch_41 : decode cX3_findPitch 41 = .ok (.iload_n 3, 1) := sorry
theorem dX3_findPitch_42 : decode cX3_findPitch 42 = .ok (.iconst (-1), 1) := sorry
theorem dX3_findPitch_43 : decode cX3_findPitch 43 = .ok (.if_icmp .eq 13, 3) := sorry
theorem dX3_findPitch_46 : decode cX3_findPitch 46 = .ok (.iload 5, 2) := sorry
theorem dX3_findPitch_48 : decode cX3_findPitch 48 = .ok (.iconst (-1), 1) := sorry
theorem dX3_findPitch_49 : decode cX3_findPitch 49 = .ok (.if_icmp .ne 7, 3) := sorry
theorem dX3_findPitch_52 : decode cX3_findPitch 52 = .ok (.iload 7, 2) := sorry
theorem dX3_findPitch_54 : decode cX3_findPitch 54 = .ok (.istore 5, 2) := sorry
theorem dX3_findPitch_56 : decode cX3_findPitch 56 = .ok (.aload_n 0, 1) := sorry
theorem dX3_findPitch_57 : decode cX3_findPitch 57 = .ok (.iload 7, 2) := sorry
theorem dX3_findPitch_59 : decode cX3_findPitch 59 = .ok (.iload_n 2, 1) := sorry
theorem dX3_findPitch_60 : decode cX3_findPitch 60 = .ok (.invokevirtual 179, 3) := sorry
theorem dX3_findPitch_63 : decode cX3_findPitch 63 = .ok (.iload_n 2, 1) := sorry
theorem dX3_findPitch_64 : decode cX3_findPitch 64 = .ok (.if_icmp .le 6, 3) := sorry
theorem dX3_findPitch_67 : decode cX3_findPitch 67 = .ok (.goto (-51), 3) := sorry
theorem dX3_findPitch_70 : decode cX3_findPitch 70 = .ok (.iload_n 3, 1) := sorry
theorem dX3_findPitch_71 : decode cX3_findPitch 71 = .ok (.iconst (-1), 1) := sorry
theorem dX3_findPitch_72 : decode cX3_findPitch 72 = .ok (.if_icmp .ne 6, 3) := sorry
theorem dX3_findPitch_75 : decode cX3_findPitch 75 = .ok (.iload 7, 2) := sorry
theorem dX3_findPitch_77 : decode cX3_findPitch 77 = .ok (.istore_n 3, 1) := sorry
theorem dX3_findPitch_78 : decode cX3_findPitch 78 = .ok (.iload 7, 2) := sorry
theorem dX3_findPitch_80 : decode cX3_findPitch 80 = .ok (.istore 4, 2) := sorry
theorem dX3_findPitch_82 : decode cX3_findPitch 82 = .ok (.goto (-66), 3) := sorry
theorem dX3_findPitch_85 : decode cX3_findPitch 85 = .ok (.iload 5, 2) := sorry
theorem dX3_findPitch_87 : decode cX3_findPitch 87 = .ok (.iconst (-1), 1) := sorry
theorem dX3_findPitch_88 : decode cX3_findPitch 88 = .ok (.if_icmp .ne 12, 3) := sorry
theorem dX3_findPitch_91 : decode cX3_findPitch 91 = .ok (.new 182, 3) := sorry
theorem dX3_findPitch_94 : decode cX3_findPitch 94 = .ok (.dup, 1) := sorry
theorem dX3_findPitch_95 : decode cX3_findPitch 95 = .ok (.aconst_null, 1) := sorry
theorem dX3_findPitch_96 : decode cX3_findPitch 96 = .ok (.invokespecial 184, 3) := sorry
theorem dX3_findPitch_99 : decode cX3_findPitch 99 = .ok (.athrow, 1) := sorry
theorem dX3_findPitch_100 : decode cX3_findPitch 100 = .ok (.aload_n 0, 1) := sorry
theorem dX3_findPitch_101 : decode cX3_findPitch 101 = .ok (.aload_n 0, 1) := sorry
theorem dX3_findPitch_102 : decode cX3_findPitch 102 = .ok (.iload_n 3, 1) := sorry
theorem dX3_findPitch_103 : decode cX3_findPitch 103 = .ok (.iload_n 2, 1) := sorry
theorem dX3_findPitch_104 : decode cX3_findPitch 104 = .ok (.invokevirtual 179, 3) := sorry
theorem dX3_findPitch_107 : decode cX3_findPitch 107 = .ok (.iload_n 3, 1) := sorry
theorem dX3_findPitch_108 : decode cX3_findPitch 108 = .ok (.isub, 1) := sorry
theorem dX3_findPitch_109 : decode cX3_findPitch 109 = .ok (.putfield 87, 3) := sorry
theorem dX3_findPitch_112 : decode cX3_findPitch 112 = .ok (.aload_n 0, 1) := sorry
theorem dX3_findPitch_113 : decode cX3_findPitch 113 = .ok (.iload 5, 2) := sorry
theorem dX3_findPitch_115 : decode cX3_findPitch 115 = .ok (.iload_n 3, 1) := sorry
theorem dX3_findPitch_116 : decode cX3_findPitch 116 = .ok (.isub, 1) := sorry
theorem dX3_findPitch_117 : decode cX3_findPitch 117 = .ok (.aload_n 0, 1) := sorry
theorem dX3_findPitch_118 : decode cX3_findPitch 118 = .ok (.getfield 87, 3) := sorry
theorem dX3_findPitch_121 : decode cX3_findPitch 121 = .ok (.isub, 1) := sorry
theorem dX3_findPitch_122 : decode cX3_findPitch 122 = .ok (.putfield 84, 3) := sorry
theorem dX3_findPitch_125 : decode cX3_findPitch 125 = .ok (.aload_n 0, 1) := sorry
theorem dX3_findPitch_126 : decode cX3_findPitch 126 = .ok (.aload_n 0, 1) := sorry
theorem dX3_findPitch_127 : decode cX3_findPitch 127 = .ok (.iload 4, 2) := sorry
theorem dX3_findPitch_129 : decode cX3_findPitch 129 = .ok (.iload_n 2, 1) := sorry
theorem dX3_findPitch_130 : decode cX3_findPitch 130 = .ok (.invokevirtual 179, 3) := sorry
theorem dX3_findPitch_133 : decode cX3_findPitch 133 = .ok (.putfield 90, 3) := sorry
theorem dX3_findPitch_136 : decode cX3_findPitch 136 = .ok (.return_, 1) := sorry
abbrev cX3_beginnings : ByteArray := prog_11_method_8_code
def yX3_beginnings : MethodName := ⟨RX3, "beginnings", "(II)Ljava/util/Iterator;"⟩
def dkwX3_beginnings_0 : List UInt8 := [187, 0, 143, 89, 42, 27, 28, 183, 0, 145, 176]
abbrev dktX3_beginnings_0 : List UInt8 := dkwX3_beginnings_0 ++ []
theorem dksX3_beginnings_0 : cX3_beginnings.data.toList.drop 0 = dktX3_beginnings_0 := sorry
theorem dX3_beginnings_0 : decode cX3_beginnings 0 = .ok (.new 143, 3) := sorry
theorem dX3_beginnings_3 : decode cX3_beginnings 3 = .ok (.dup, 1) := sorry
theorem dX3_beginnings_4 : decode cX3_beginnings 4 = .ok (.aload_n 0, 1) := sorry
theorem dX3_beginnings_5 : decode cX3_beginnings 5 = .ok (.iload_n 1, 1) := sorry
theorem dX3_beginnings_6 : decode cX3_beginnings 6 = .ok (.iload_n 2, 1) := sorry
theorem dX3_beginnings_7 : decode cX3_beginnings 7 = .ok (.invokespecial 145, 3) := sorry
theorem dX3_beginnings_10 : decode cX3_beginnings 10 = .ok (.areturn, 1) := sorry
abbrev cX3_behind : ByteArray := prog_11_method_9_code
def yX3_behind : MethodName := ⟨RX3, "behind", "(II)I"⟩
def dkwX3_behind_0 : List UInt8 := [27, 62, 29, 28, 163, 0, 17, 42, 29, 182, 0, 139, 153, 0, 9, 132, 3, 1, 167, 255, 240, 29, 172]
abbrev dktX3_behind_0 : List UInt8 := dkwX3_behind_0 ++ []
theorem dksX3_behind_0 : cX3_behind.data.toList.drop 0 = dktX3_behind_0 := sorry
theorem dX3_behind_0 : decode cX3_behind 0 = .ok (.iload_n 1, 1) := sorry
theorem dX3_behind_1 : decode cX3_behind 1 = .ok (.istore_n 3, 1) := sorry
theorem dX3_behind_2 : decode cX3_behind 2 = .ok (.iload_n 3, 1) := sorry
theorem dX3_behind_3 : decode cX3_behind 3 = .ok (.iload_n 2, 1) := sorry
theorem dX3_behind_4 : decode cX3_behind 4 = .ok (.if_icmp .gt 17, 3) := sorry
theorem dX3_behind_7 : decode cX3_behind 7 = .ok (.aload_n 0, 1) := sorry
theorem dX3_behind_8 : decode cX3_behind 8 = .ok (.iload_n 3, 1) := sorry
theorem dX3_behind_9 : decode cX3_behind 9 = .ok (.invokevirtual 139, 3) := sorry
theorem dX3_behind_12 : decode cX3_behind 12 = .ok (.ifCond .eq 9, 3) := sorry
theorem dX3_behind_15 : decode cX3_behind 15 = .ok (.iinc 3 1, 3) := sorry
theorem dX3_behind_18 : decode cX3_behind 18 = .ok (.goto (-16), 3) := sorry
theorem dX3_behind_21 : decode cX3_behind 21 = .ok (.iload_n 3, 1) := sorry
theorem dX3_behind_22 : decode cX3_behind 22 = .ok (.ireturn, 1) := sorry
abbrev cX3_note : ByteArray := prog_11_method_22_code
def yX3_note : MethodName := ⟨RX3, "note", "(LLabelDriver$Trouble;)V"⟩
def dkwX3_note_1 : List UInt8 := [181, 0, 74, 177]
abbrev dktX3_note_1 : List UInt8 := dkwX3_note_1 ++ []
def dkwX3_note_0 : List UInt8 := [42, 43, 180, 1, 31, 181, 0, 56, 43, 193, 0, 157, 154, 0, 10, 43, 193, 0, 182, 153, 0, 8, 42, 3]
abbrev dktX3_note_0 : List UInt8 := dkwX3_note_0 ++ dktX3_note_1
theorem dksX3_note_0 : cX3_note.data.toList.drop 0 = dktX3_note_0 := sorry
theorem dksX3_note_1 : cX3_note.data.toList.drop 24 = dktX3_note_1 := sorry
theorem dX3_note_0 : decode cX3_note 0 = .ok (.aload_n 0, 1) := sorry
theorem dX3_note_1 : decode cX3_note 1 = .ok (.aload_n 1, 1) := sorry
theorem dX3_note_2 : decode cX3_note 2 = .ok (.getfield 287, 3) := sorry
theorem dX3_note_5 : decode cX3_note 5 = .ok (.putfield 56, 3) := sorry
theorem dX3_note_8 : decode cX3_note 8 = .ok (.aload_n 1, 1) := sorry
theorem dX3_note_9 : decode cX3_note 9 = .ok (.instanceof 157, 3) := sorry
theorem dX3_note_12 : decode cX3_note 12 = .ok (.ifCond .ne 10, 3) := sorry
theorem dX3_note_15 : decode cX3_note 15 = .ok (.aload_n 1, 1) := sorry
theorem dX3_note_16 : decode cX3_note 16 = .ok (.instanceof 182, 3) := sorry
theorem dX3_note_19 : decode cX3_note 19 = .ok (.ifCond .eq 8, 3) := sorry
theorem dX3_note_22 : decode cX3_note 22 = .ok (.aload_n 0, 1) := sorry
theorem dX3_note_23 : decode cX3_note 23 = .ok (.iconst 0, 1) := sorry
theorem dX3_note_24 : decode cX3_note 24 = .ok (.putfield 74, 3) := sorry
theorem dX3_note_27 : decode cX3_note 27 = .ok (.return_, 1) := sorry
abbrev cX3_tearPlace : ByteArray := prog_11_method_20_code
def yX3_tearPlace : MethodName := ⟨RX3, "tearPlace", "()I"⟩
def dkwX3_tearPlace_0 : List UInt8 := [42, 180, 0, 90, 42, 180, 0, 87, 5, 108, 100, 42, 180, 0, 3, 180, 0, 113, 180, 1, 9, 96, 172]
abbrev dktX3_tearPlace_0 : List UInt8 := dkwX3_tearPlace_0 ++ []
theorem dksX3_tearPlace_0 : cX3_tearPlace.data.toList.drop 0 = dktX3_tearPlace_0 := sorry
theorem dX3_tearPlace_0 : decode cX3_tearPlace 0 = .ok (.aload_n 0, 1) := sorry
theorem dX3_tearPlace_1 : decode cX3_tearPlace 1 = .ok (.getfield 90, 3) := sorry
theorem dX3_tearPlace_4 : decode cX3_tearPlace 4 = .ok (.aload_n 0, 1) := sorry
theorem dX3_tearPlace_5 : decode cX3_tearPlace 5 = .ok (.getfield 87, 3) := sorry
theorem dX3_tearPlace_8 : decode cX3_tearPlace 8 = .ok (.iconst 2, 1) := sorry
theorem dX3_tearPlace_9 : decode cX3_tearPlace 9 = .ok (.idiv, 1) := sorry
theorem dX3_tearPlace_10 : decode cX3_tearPlace 10 = .ok (.isub, 1) := sorry
theorem dX3_tearPlace_11 : decode cX3_tearPlace 11 = .ok (.aload_n 0, 1) := sorry
theorem dX3_tearPlace_12 : decode cX3_tearPlace 12 = .ok (.getfield 3, 3) := sorry
theorem dX3_tearPlace_15 : decode cX3_tearPlace 15 = .ok (.getfield 113, 3) := sorry
theorem dX3_tearPlace_18 : decode cX3_tearPlace 18 = .ok (.getfield 265, 3) := sorry
theorem dX3_tearPlace_21 : decode cX3_tearPlace 21 = .ok (.iadd, 1) := sorry
theorem dX3_tearPlace_22 : decode cX3_tearPlace 22 = .ok (.ireturn, 1) := sorry
abbrev cX3_run : ByteArray := prog_11_method_21_code
def yX3_run : MethodName := ⟨RX3, "run", "(I)I"⟩
def dkwX3_run_6 : List UInt8 := [180, 0, 25, 4, 46, 28, 100, 172]
abbrev dktX3_run_6 : List UInt8 := dkwX3_run_6 ++ []
def dkwX3_run_5 : List UInt8 := [181, 0, 59, 42, 180, 0, 74, 153, 0, 15, 29, 158, 0, 11, 42, 42, 182, 1, 33, 182, 0, 154, 42]
abbrev dktX3_run_5 : List UInt8 := dkwX3_run_5 ++ dktX3_run_6
def dkwX3_run_4 : List UInt8 := [193, 1, 21, 153, 0, 18, 25, 6, 192, 1, 21, 58, 5, 25, 5, 180, 1, 31, 167, 0, 4, 3]
abbrev dktX3_run_4 : List UInt8 := dkwX3_run_4 ++ dktX3_run_5
def dkwX3_run_3 : List UInt8 := [167, 255, 213, 167, 0, 46, 58, 4, 42, 25, 4, 182, 1, 23, 42, 25, 4, 182, 1, 27, 58, 6, 25, 6]
abbrev dktX3_run_3 : List UInt8 := dkwX3_run_3 ++ dktX3_run_4
def dkwX3_run_2 : List UInt8 := [180, 0, 33, 182, 1, 15, 87, 132, 3, 1, 42, 25, 4, 182, 1, 18, 42, 182, 1, 12, 58, 4]
abbrev dktX3_run_2 : List UInt8 := dkwX3_run_2 ++ dktX3_run_3
def dkwX3_run_1 : List UInt8 := [58, 4, 25, 4, 198, 0, 44, 29, 27, 162, 0, 39, 42, 180, 0, 33, 182, 0, 193, 154, 0, 11, 42]
abbrev dktX3_run_1 : List UInt8 := dkwX3_run_1 ++ dktX3_run_2
def dkwX3_run_0 : List UInt8 := [42, 180, 0, 25, 4, 46, 61, 3, 62, 42, 3, 181, 0, 56, 42, 3, 181, 0, 59, 42, 182, 1, 12]
abbrev dktX3_run_0 : List UInt8 := dkwX3_run_0 ++ dktX3_run_1
theorem dksX3_run_0 : cX3_run.data.toList.drop 0 = dktX3_run_0 := sorry
theorem dksX3_run_1 : cX3_run.data.toList.drop 23 = dktX3_run_1 := sorry
theorem dksX3_run_2 : cX3_run.data.toList.drop 46 = dktX3_run_2 := sorry
theorem dksX3_run_3 : cX3_run.data.toList.drop 68 = dktX3_run_3 := sorry
theorem dksX3_run_4 : cX3_run.data.toList.drop 92 = dktX3_run_4 := sorry
theorem dksX3_run_5 : cX3_run.data.toList.drop 114 = dktX3_run_5 := sorry
theorem dksX3_run_6 : cX3_run.data.toList.drop 137 = dktX3_run_6 := sorry
theorem dX3_run_0 : decode cX3_run 0 = .ok (.aload_n 0, 1) := sorry
theorem dX3_run_1 : decode cX3_run 1 = .ok (.getfield 25, 3) := sorry
theorem dX3_run_4 : decode cX3_run 4 = .ok (.iconst 1, 1) := sorry
theorem dX3_run_5 : decode cX3_run 5 = .ok (.iaload, 1) := sorry
theorem dX3_run_6 : decode cX3_run 6 = .ok (.istore_n 2, 1) := sorry
theorem dX3_run_7 : decode cX3_run 7 = .ok (.iconst 0, 1) := sorry
theorem dX3_run_8 : decode cX3_run 8 = .ok (.istore_n 3, 1) := sorry
theorem dX3_run_9 : decode cX3_run 9 = .ok (.aload_n 0, 1) := sorry
theorem dX3_run_10 : decode cX3_run 10 = .ok (.iconst 0, 1) := sorry
theorem dX3_run_11 : decode cX3_run 11 = .ok (.putfield 56, 3) := sorry
theorem dX3_run_14 : decode cX3_run 14 = .ok (.aload_n 0, 1) := sorry
theorem dX3_run_15 : decode cX3_run 15 = .ok (.iconst 0, 1) := sorry
theorem dX3_run_16 : decode cX3_run 16 = .ok (.putfield 59, 3) := sorry
theorem dX3_run_19 : decode cX3_run 19 = .ok (.aload_n 0, 1) := sorry
theorem dX3_run_20 : decode cX3_run 20 = .ok (.invokevirtual 268, 3) := sorry
theorem dX3_run_23 : decode cX3_run 23 = .ok (.astore 4, 2) := sorry
theorem dX3_run_25 : decode cX3_run 25 = .ok (.aload 4, 2) := sorry
theorem dX3_run_27 : decode cX3_run 27 = .ok (.ifnull 44, 3) := sorry
theorem dX3_run_30 : decode cX3_run 30 = .ok (.iload_n 3, 1) := sorry
theorem dX3_run_31 : decode cX3_run 31 = .ok (.iload_n 1, 1) := sorry
theorem dX3_run_32 : decode cX3_run 32 = .ok (.if_icmp .ge 39, 3) := sorry
theorem dX3_run_35 : decode cX3_run 35 = .ok (.aload_n 0, 1) := sorry
theorem dX3_run_36 : decode cX3_run 36 = .ok (.getfield 33, 3) := sorry
theorem dX3_run_39 : decode cX3_run 39 = .ok (.invokevirtual 193, 3) := sorry
theorem dX3_run_42 : decode cX3_run 42 = .ok (.ifCond .ne 11, 3) := sorry
theorem dX3_run_45 : decode cX3_run 45 = .ok (.aload_n 0, 1) := sorry
theorem dX3_run_46 : decode cX3_run 46 = .ok (.getfield 33, 3) := sorry
theorem dX3_run_49 : decode cX3_run 49 = .ok (.invokevirtual 271, 3) := sorry
theorem dX3_run_52 : decode cX3_run 52 = .ok (.pop, 1) := sorry
theorem dX3_run_53 : decode cX3_run 53 = .ok (.iinc 3 1, 3) := sorry
theorem dX3_run_56 : decode cX3_run 56 = .ok (.aload_n 0, 1) := sorry
theorem dX3_run_57 : decode cX3_run 57 = .ok (.aload 4, 2) := sorry
theorem dX3_run_59 : decode cX3_run 59 = .ok (.invokevirtual 274, 3) := sorry
theorem dX3_run_62 : decode cX3_run 62 = .ok (.aload_n 0, 1) := sorry
theorem dX3_run_63 : decode cX3_run 63 = .ok (.invokevirtual 268, 3) := sorry
theorem dX3_run_66 : decode cX3_run 66 = .ok (.astore 4, 2) := sorry
theorem dX3_run_68 : decode cX3_run 68 = .ok (.goto (-43), 3) := sorry
theorem dX3_run_71 : decode cX3_run 71 = .ok (.goto 46, 3) := sorry
theorem dX3_run_74 : decode cX3_run 74 = .ok (.astore 4, 2) := sorry
theorem dX3_run_76 : decode cX3_run 76 = .ok (.aload_n 0, 1) := sorry
theorem dX3_run_77 : decode cX3_run 77 = .ok (.aload 4, 2) := sorry
theorem dX3_run_79 : decode cX3_run 79 = .ok (.invokevirtual 279, 3) := sorry
theorem dX3_run_82 : decode cX3_run 82 = .ok (.aload_n 0, 1) := sorry
theorem dX3_run_83 : decode cX3_run 83 = .ok (.aload 4, 2) := sorry
theorem dX3_run_85 : decode cX3_run 85 = .ok (.invokevirtual 283, 3) := sorry
theorem dX3_run_88 : decode cX3_run 88 = .ok (.astore 6, 2) := sorry
theorem dX3_run_90 : decode cX3_run 90 = .ok (.aload 6, 2) := sorry
theorem dX3_run_92 : decode cX3_run 92 = .ok (.instanceof 277, 3) := sorry
theorem dX3_run_95 : decode cX3_run 95 = .ok (.ifCond .eq 18, 3) := sorry
theorem dX3_run_98 : decode cX3_run 98 = .ok (.aload 6, 2) := sorry
theorem dX3_run_100 : decode cX3_run 100 = .ok (.checkcast 277, 3) := sorry
theorem dX3_run_103 : decode cX3_run 103 = .ok (.astore 5, 2) := sorry
theorem dX3_run_105 : decode cX3_run 105 = .ok (.aload 5, 2) := sorry
theorem dX3_run_107 : decode cX3_run 107 = .ok (.getfield 287, 3) := sorry
theorem dX3_run_110 : decode cX3_run 110 = .ok (.goto 4, 3) := sorry
theorem dX3_run_113 : decode cX3_run 113 = .ok (.iconst 0, 1) := sorry
theorem dX3_run_114 : decode cX3_run 114 = .ok (.putfield 59, 3) := sorry
theorem dX3_run_117 : decode cX3_run 117 = .ok (.aload_n 0, 1) := sorry
theorem dX3_run_118 : decode cX3_run 118 = .ok (.getfield 74, 3) := sorry
theorem dX3_run_121 : decode cX3_run 121 = .ok (.ifCond .eq 15, 3) := sorry
theorem dX3_run_124 : decode cX3_run 124 = .ok (.iload_n 3, 1) := sorry
theorem dX3_run_125 : decode cX3_run 125 = .ok (.ifCond .le 11, 3) := sorry
theorem dX3_run_128 : decode cX3_run 128 = .ok (.aload_n 0, 1) := sorry
theorem dX3_run_129 : decode cX3_run 129 = .ok (.aload_n 0, 1) := sorry
theorem dX3_run_130 : decode cX3_run 130 = .ok (.invokevirtual 289, 3) := sorry
theorem dX3_run_133 : decode cX3_run 133 = .ok (.invokevirtual 154, 3) := sorry
theorem dX3_run_136 : decode cX3_run 136 = .ok (.aload_n 0, 1) := sorry
theorem dX3_run_137 : decode cX3_run 137 = .ok (.getfield 25, 3) := sorry
theorem dX3_run_140 : decode cX3_run 140 = .ok (.iconst 1, 1) := sorry
theorem dX3_run_141 : decode cX3_run 141 = .ok (.iaload, 1) := sorry
theorem dX3_run_142 : decode cX3_run 142 = .ok (.iload_n 2, 1) := sorry
theorem dX3_run_143 : decode cX3_run 143 = .ok (.isub, 1) := sorry
theorem dX3_run_144 : decode cX3_run 144 = .ok (.ireturn, 1) := sorry
abbrev cX3_print : ByteArray := prog_11_method_17_code
def yX3_print : MethodName := ⟨RX3, "print", "(LLabelDriver$Serial;)V"⟩
def dkwX3_print_1 : List UInt8 := [182, 0, 243, 45, 191, 177]
abbrev dktX3_print_1 : List UInt8 := dkwX3_print_1 ++ []
def dkwX3_print_0 : List UInt8 := [42, 180, 0, 90, 61, 42, 43, 182, 0, 239, 42, 43, 28, 182, 0, 243, 167, 0, 12, 78, 42, 43, 28]
abbrev dktX3_print_0 : List UInt8 := dkwX3_print_0 ++ dktX3_print_1
theorem dksX3_print_0 : cX3_print.data.toList.drop 0 = dktX3_print_0 := sorry
theorem dksX3_print_1 : cX3_print.data.toList.drop 23 = dktX3_print_1 := sorry
theorem dX3_print_0 : decode cX3_print 0 = .ok (.aload_n 0, 1) := sorry
theorem dX3_print_1 : decode cX3_print 1 = .ok (.getfield 90, 3) := sorry
theorem dX3_print_4 : decode cX3_print 4 = .ok (.istore_n 2, 1) := sorry
theorem dX3_print_5 : decode cX3_print 5 = .ok (.aload_n 0, 1) := sorry
theorem dX3_print_6 : decode cX3_print 6 = .ok (.aload_n 1, 1) := sorry
theorem dX3_print_7 : decode cX3_print 7 = .ok (.invokevirtual 239, 3) := sorry
theorem dX3_print_10 : decode cX3_print 10 = .ok (.aload_n 0, 1) := sorry
theorem dX3_print_11 : decode cX3_print 11 = .ok (.aload_n 1, 1) := sorry
theorem dX3_print_12 : decode cX3_print 12 = .ok (.iload_n 2, 1) := sorry
theorem dX3_print_13 : decode cX3_print 13 = .ok (.invokevirtual 243, 3) := sorry
theorem dX3_print_16 : decode cX3_print 16 = .ok (.goto 12, 3) := sorry
theorem dX3_print_19 : decode cX3_print 19 = .ok (.astore_n 3, 1) := sorry
theorem dX3_print_20 : decode cX3_print 20 = .ok (.aload_n 0, 1) := sorry
theorem dX3_print_21 : decode cX3_print 21 = .ok (.aload_n 1, 1) := sorry
theorem dX3_print_22 : decode cX3_print 22 = .ok (.iload_n 2, 1) := sorry
theorem dX3_print_23 : decode cX3_print 23 = .ok (.invokevirtual 243, 3) := sorry
theorem dX3_print_26 : decode cX3_print 26 = .ok (.aload_n 3, 1) := sorry
theorem dX3_print_27 : decode cX3_print 27 = .ok (.athrow, 1) := sorry
theorem dX3_print_28 : decode cX3_print 28 = .ok (.return_, 1) := sorry
abbrev cX3_printAt : ByteArray := prog_11_method_18_code
def yX3_printAt : MethodName := ⟨RX3, "printAt", "(LLabelDriver$Serial;)V"⟩
def dkwX3_printAt_6 : List UInt8 := [180, 0, 90, 42, 180, 0, 84, 96, 182, 0, 154, 42, 44, 182, 1, 0, 44, 198, 0, 5, 44, 191, 177]
abbrev dktX3_printAt_6 : List UInt8 := dkwX3_printAt_6 ++ []
def dkwX3_printAt_5 : List UInt8 := [182, 0, 253, 45, 193, 0, 157, 153, 0, 5, 45, 191, 187, 0, 229, 89, 183, 0, 231, 77, 42, 42]
abbrev dktX3_printAt_5 : List UInt8 := dkwX3_printAt_5 ++ dktX3_printAt_6
def dkwX3_printAt_4 : List UInt8 := [180, 0, 199, 43, 180, 0, 187, 182, 0, 208, 192, 0, 212, 180, 0, 250, 153, 0, 11, 42, 180, 0, 33, 43]
abbrev dktX3_printAt_4 : List UInt8 := dkwX3_printAt_4 ++ dktX3_printAt_5
def dkwX3_printAt_3 : List UInt8 := [182, 0, 235, 5, 79, 42, 180, 0, 25, 5, 92, 46, 4, 96, 79, 42, 180, 0, 3, 180, 0, 113]
abbrev dktX3_printAt_3 : List UInt8 := dkwX3_printAt_3 ++ dktX3_printAt_4
def dkwX3_printAt_2 : List UInt8 := [4, 79, 42, 180, 0, 25, 4, 92, 46, 4, 96, 79, 167, 0, 76, 78, 42, 180, 0, 19, 42, 43]
abbrev dktX3_printAt_2 : List UInt8 := dkwX3_printAt_2 ++ dktX3_printAt_3
def dkwX3_printAt_1 : List UInt8 := [180, 0, 25, 3, 92, 46, 4, 96, 79, 1, 77, 42, 182, 0, 247, 42, 180, 0, 19, 42, 43, 182, 0, 235]
abbrev dktX3_printAt_1 : List UInt8 := dkwX3_printAt_1 ++ dktX3_printAt_2
def dkwX3_printAt_0 : List UInt8 := [42, 42, 180, 0, 90, 182, 0, 154, 42, 180, 0, 22, 42, 43, 182, 0, 235, 92, 46, 4, 96, 79, 42]
abbrev dktX3_printAt_0 : List UInt8 := dkwX3_printAt_0 ++ dktX3_printAt_1
theorem dksX3_printAt_0 : cX3_printAt.data.toList.drop 0 = dktX3_printAt_0 := sorry
theorem dksX3_printAt_1 : cX3_printAt.data.toList.drop 23 = dktX3_printAt_1 := sorry
theorem dksX3_printAt_2 : cX3_printAt.data.toList.drop 47 = dktX3_printAt_2 := sorry
theorem dksX3_printAt_3 : cX3_printAt.data.toList.drop 69 = dktX3_printAt_3 := sorry
theorem dksX3_printAt_4 : cX3_printAt.data.toList.drop 91 = dktX3_printAt_4 := sorry
theorem dksX3_printAt_5 : cX3_printAt.data.toList.drop 115 = dktX3_printAt_5 := sorry
theorem dksX3_printAt_6 : cX3_printAt.data.toList.drop 137 = dktX3_printAt_6 := sorry
theorem dX3_printAt_0 : decode cX3_printAt 0 = .ok (.aload_n 0, 1) := sorry
theorem dX3_printAt_1 : decode cX3_printAt 1 = .ok (.aload_n 0, 1) := sorry
theorem dX3_printAt_2 : decode cX3_printAt 2 = .ok (.getfield 90, 3) := sorry
theorem dX3_printAt_5 : decode cX3_printAt 5 = .ok (.invokevirtual 154, 3) := sorry
theorem dX3_printAt_8 : decode cX3_printAt 8 = .ok (.aload_n 0, 1) := sorry
theorem dX3_printAt_9 : decode cX3_printAt 9 = .ok (.getfield 22, 3) := sorry
theorem dX3_printAt_12 : decode cX3_printAt 12 = .ok (.aload_n 0, 1) := sorry
theorem dX3_printAt_13 : decode cX3_printAt 13 = .ok (.aload_n 1, 1) := sorry
theorem dX3_printAt_14 : decode cX3_printAt 14 = .ok (.invokevirtual 235, 3) := sorry
theorem dX3_printAt_17 : decode cX3_printAt 17 = .ok (.dup2, 1) := sorry
theorem dX3_printAt_18 : decode cX3_printAt 18 = .ok (.iaload, 1) := sorry
theorem dX3_printAt_19 : decode cX3_printAt 19 = .ok (.iconst 1, 1) := sorry
theorem dX3_printAt_20 : decode cX3_printAt 20 = .ok (.iadd, 1) := sorry
theorem dX3_printAt_21 : decode cX3_printAt 21 = .ok (.iastore, 1) := sorry
theorem dX3_printAt_22 : decode cX3_printAt 22 = .ok (.aload_n 0, 1) := sorry
theorem dX3_printAt_23 : decode cX3_printAt 23 = .ok (.getfield 25, 3) := sorry
theorem dX3_printAt_26 : decode cX3_printAt 26 = .ok (.iconst 0, 1) := sorry
theorem dX3_printAt_27 : decode cX3_printAt 27 = .ok (.dup2, 1) := sorry
theorem dX3_printAt_28 : decode cX3_printAt 28 = .ok (.iaload, 1) := sorry
theorem dX3_printAt_29 : decode cX3_printAt 29 = .ok (.iconst 1, 1) := sorry
theorem dX3_printAt_30 : decode cX3_printAt 30 = .ok (.iadd, 1) := sorry
theorem dX3_printAt_31 : decode cX3_printAt 31 = .ok (.iastore, 1) := sorry
theorem dX3_printAt_32 : decode cX3_printAt 32 = .ok (.aconst_null, 1) := sorry
theorem dX3_printAt_33 : decode cX3_printAt 33 = .ok (.astore_n 2, 1) := sorry
theorem dX3_printAt_34 : decode cX3_printAt 34 = .ok (.aload_n 0, 1) := sorry
theorem dX3_printAt_35 : decode cX3_printAt 35 = .ok (.invokevirtual 247, 3) := sorry
theorem dX3_printAt_38 : decode cX3_printAt 38 = .ok (.aload_n 0, 1) := sorry
theorem dX3_printAt_39 : decode cX3_printAt 39 = .ok (.getfield 19, 3) := sorry
theorem dX3_printAt_42 : decode cX3_printAt 42 = .ok (.aload_n 0, 1) := sorry
theorem dX3_printAt_43 : decode cX3_printAt 43 = .ok (.aload_n 1, 1) := sorry
theorem dX3_printAt_44 : decode cX3_printAt 44 = .ok (.invokevirtual 235, 3) := sorry
theorem dX3_printAt_47 : decode cX3_printAt 47 = .ok (.iconst 1, 1) := sorry
theorem dX3_printAt_48 : decode cX3_printAt 48 = .ok (.iastore, 1) := sorry
theorem dX3_printAt_49 : decode cX3_printAt 49 = .ok (.aload_n 0, 1) := sorry
theorem dX3_printAt_50 : decode cX3_printAt 50 = .ok (.getfield 25, 3) := sorry
theorem dX3_printAt_53 : decode cX3_printAt 53 = .ok (.iconst 1, 1) := sorry
theorem dX3_printAt_54 : decode cX3_printAt 54 = .ok (.dup2, 1) := sorry
theorem dX3_printAt_55 : decode cX3_printAt 55 = .ok (.iaload, 1) := sorry
theorem dX3_printAt_56 : decode cX3_printAt 56 = .ok (.iconst 1, 1) := sorry
theorem dX3_printAt_57 : decode cX3_printAt 57 = .ok (.iadd, 1) := sorry
theorem dX3_printAt_58 : decode cX3_printAt 58 = .ok (.iastore, 1) := sorry
theorem dX3_printAt_59 : decode cX3_printAt 59 = .ok (.goto 76, 3) := sorry
theorem dX3_printAt_62 : decode cX3_printAt 62 = .ok (.astore_n 3, 1) := sorry
theorem dX3_printAt_63 : decode cX3_printAt 63 = .ok (.aload_n 0, 1) := sorry
theorem dX3_printAt_64 : decode cX3_printAt 64 = .ok (.getfield 19, 3) := sorry
theorem dX3_printAt_67 : decode cX3_printAt 67 = .ok (.aload_n 0, 1) := sorry
theorem dX3_printAt_68 : decode cX3_printAt 68 = .ok (.aload_n 1, 1) := sorry
theorem dX3_printAt_69 : decode cX3_printAt 69 = .ok (.invokevirtual 235, 3) := sorry
theorem dX3_printAt_72 : decode cX3_printAt 72 = .ok (.iconst 2, 1) := sorry
theorem dX3_printAt_73 : decode cX3_printAt 73 = .ok (.iastore, 1) := sorry
theorem dX3_printAt_74 : decode cX3_printAt 74 = .ok (.aload_n 0, 1) := sorry
theorem dX3_printAt_75 : decode cX3_printAt 75 = .ok (.getfield 25, 3) := sorry
theorem dX3_printAt_78 : decode cX3_printAt 78 = .ok (.iconst 2, 1) := sorry
theorem dX3_printAt_79 : decode cX3_printAt 79 = .ok (.dup2, 1) := sorry
theorem dX3_printAt_80 : decode cX3_printAt 80 = .ok (.iaload, 1) := sorry
theorem dX3_printAt_81 : decode cX3_printAt 81 = .ok (.iconst 1, 1) := sorry
theorem dX3_printAt_82 : decode cX3_printAt 82 = .ok (.iadd, 1) := sorry
theorem dX3_printAt_83 : decode cX3_printAt 83 = .ok (.iastore, 1) := sorry
theorem dX3_printAt_84 : decode cX3_printAt 84 = .ok (.aload_n 0, 1) := sorry
theorem dX3_printAt_85 : decode cX3_printAt 85 = .ok (.getfield 3, 3) := sorry
theorem dX3_printAt_88 : decode cX3_printAt 88 = .ok (.getfield 113, 3) := sorry
theorem dX3_printAt_91 : decode cX3_printAt 91 = .ok (.getfield 199, 3) := sorry
theorem dX3_printAt_94 : decode cX3_printAt 94 = .ok (.aload_n 1, 1) := sorry
theorem dX3_printAt_95 : decode cX3_printAt 95 = .ok (.getfield 187, 3) := sorry
theorem dX3_printAt_98 : decode cX3_printAt 98 = .ok (.invokevirtual 208, 3) := sorry
theorem dX3_printAt_101 : decode cX3_printAt 101 = .ok (.checkcast 212, 3) := sorry
theorem dX3_printAt_104 : decode cX3_printAt 104 = .ok (.getfield 250, 3) := sorry
theorem dX3_printAt_107 : decode cX3_printAt 107 = .ok (.ifCond .eq 11, 3) := sorry
theorem dX3_printAt_110 : decode cX3_printAt 110 = .ok (.aload_n 0, 1) := sorry
theorem dX3_printAt_111 : decode cX3_printAt 111 = .ok (.getfield 33, 3) := sorry
theorem dX3_printAt_114 : decode cX3_printAt 114 = .ok (.aload_n 1, 1) := sorry
theorem dX3_printAt_115 : decode cX3_printAt 115 = .ok (.invokevirtual 253, 3) := sorry
theorem dX3_printAt_118 : decode cX3_printAt 118 = .ok (.aload_n 3, 1) := sorry
theorem dX3_printAt_119 : decode cX3_printAt 119 = .ok (.instanceof 157, 3) := sorry
theorem dX3_printAt_122 : decode cX3_printAt 122 = .ok (.ifCond .eq 5, 3) := sorry
theorem dX3_printAt_125 : decode cX3_printAt 125 = .ok (.aload_n 3, 1) := sorry
theorem dX3_printAt_126 : decode cX3_printAt 126 = .ok (.athrow, 1) := sorry
theorem dX3_printAt_127 : decode cX3_printAt 127 = .ok (.new 229, 3) := sorry
theorem dX3_printAt_130 : decode cX3_printAt 130 = .ok (.dup, 1) := sorry
theorem dX3_printAt_131 : decode cX3_printAt 131 = .ok (.invokespecial 231, 3) := sorry
theorem dX3_printAt_134 : decode cX3_printAt 134 = .ok (.astore_n 2, 1) := sorry
theorem dX3_printAt_135 : decode cX3_printAt 135 = .ok (.aload_n 0, 1) := sorry
theorem dX3_printAt_136 : decode cX3_printAt 136 = .ok (.aload_n 0, 1) := sorry
theorem dX3_printAt_137 : decode cX3_printAt 137 = .ok (.getfield 90, 3) := sorry
theorem dX3_printAt_140 : decode cX3_printAt 140 = .ok (.aload_n 0, 1) := sorry
theorem dX3_printAt_141 : decode cX3_printAt 141 = .ok (.getfield 84, 3) := sorry
theorem dX3_printAt_144 : decode cX3_printAt 144 = .ok (.iadd, 1) := sorry
theorem dX3_printAt_145 : decode cX3_printAt 145 = .ok (.invokevirtual 154, 3) := sorry
theorem dX3_printAt_148 : decode cX3_printAt 148 = .ok (.aload_n 0, 1) := sorry
theorem dX3_printAt_149 : decode cX3_printAt 149 = .ok (.aload_n 2, 1) := sorry
theorem dX3_printAt_150 : decode cX3_printAt 150 = .ok (.invokevirtual 256, 3) := sorry
theorem dX3_printAt_153 : decode cX3_printAt 153 = .ok (.aload_n 2, 1) := sorry
theorem dX3_printAt_154 : decode cX3_printAt 154 = .ok (.ifnull 5, 3) := sorry
theorem dX3_printAt_157 : decode cX3_printAt 157 = .ok (.aload_n 2, 1) := sorry
theorem dX3_printAt_158 : decode cX3_printAt 158 = .ok (.athrow, 1) := sorry
theorem dX3_printAt_159 : decode cX3_printAt 159 = .ok (.return_, 1) := sorry
abbrev cX3_place : ByteArray := prog_11_method_13_code
def yX3_place : MethodName := ⟨RX3, "place", "(LLabelDriver$Serial;)I"⟩
def dkwX3_place_0 : List UInt8 := [16, 40, 43, 180, 0, 187, 104, 43, 180, 0, 190, 96, 172]
abbrev dktX3_place_0 : List UInt8 := dkwX3_place_0 ++ []
theorem dksX3_place_0 : cX3_place.data.toList.drop 0 = dktX3_place_0 := sorry
theorem dX3_place_0 : decode cX3_place 0 = .ok (.bipush 40, 2) := sorry
theorem dX3_place_2 : decode cX3_place 2 = .ok (.aload_n 1, 1) := sorry
theorem dX3_place_3 : decode cX3_place 3 = .ok (.getfield 187, 3) := sorry
theorem dX3_place_6 : decode cX3_place 6 = .ok (.imul, 1) := sorry
theorem dX3_place_7 : decode cX3_place 7 = .ok (.aload_n 1, 1) := sorry
theorem dX3_place_8 : decode cX3_place 8 = .ok (.getfield 190, 3) := sorry
theorem dX3_place_11 : decode cX3_place 11 = .ok (.iadd, 1) := sorry
theorem dX3_place_12 : decode cX3_place 12 = .ok (.ireturn, 1) := sorry
abbrev cX3_printDots : ByteArray := prog_11_method_15_code
def yX3_printDots : MethodName := ⟨RX3, "printDots", "()V"⟩
def dkwX3_printDots_5 : List UInt8 := [182, 0, 132, 132, 1, 1, 167, 255, 135, 177]
abbrev dktX3_printDots_5 : List UInt8 := dkwX3_printDots_5 ++ []
def dkwX3_printDots_4 : List UInt8 := [153, 0, 23, 42, 89, 180, 0, 46, 4, 100, 181, 0, 46, 42, 180, 0, 25, 7, 92, 46, 4, 96, 79, 42]
abbrev dktX3_printDots_4 : List UInt8 := dkwX3_printDots_4 ++ dktX3_printDots_5
def dkwX3_printDots_3 : List UInt8 := [184, 0, 225, 61, 28, 153, 0, 18, 42, 180, 0, 46, 154, 0, 11, 187, 0, 229, 89, 183, 0, 231, 191, 28]
abbrev dktX3_printDots_3 : List UInt8 := dkwX3_printDots_3 ++ dktX3_printDots_4
def dkwX3_printDots_2 : List UInt8 := [180, 0, 3, 180, 0, 113, 180, 0, 219, 42, 180, 0, 3, 180, 0, 113, 180, 0, 222, 96, 4, 100, 133]
abbrev dktX3_printDots_2 : List UInt8 := dkwX3_printDots_2 ++ dktX3_printDots_3
def dkwX3_printDots_1 : List UInt8 := [187, 0, 157, 89, 183, 0, 159, 191, 27, 133, 42, 180, 0, 3, 180, 0, 113, 180, 0, 219, 133, 42]
abbrev dktX3_printDots_1 : List UInt8 := dkwX3_printDots_1 ++ dktX3_printDots_2
def dkwX3_printDots_0 : List UInt8 := [3, 60, 27, 42, 180, 0, 84, 162, 0, 119, 42, 180, 0, 50, 42, 180, 0, 37, 182, 0, 148, 161, 0, 11]
abbrev dktX3_printDots_0 : List UInt8 := dkwX3_printDots_0 ++ dktX3_printDots_1
theorem dksX3_printDots_0 : cX3_printDots.data.toList.drop 0 = dktX3_printDots_0 := sorry
theorem dksX3_printDots_1 : cX3_printDots.data.toList.drop 24 = dktX3_printDots_1 := sorry
theorem dksX3_printDots_2 : cX3_printDots.data.toList.drop 46 = dktX3_printDots_2 := sorry
theorem dksX3_printDots_3 : cX3_printDots.data.toList.drop 69 = dktX3_printDots_3 := sorry
theorem dksX3_printDots_4 : cX3_printDots.data.toList.drop 93 = dktX3_printDots_4 := sorry
theorem dksX3_printDots_5 : cX3_printDots.data.toList.drop 117 = dktX3_printDots_5 := sorry
theorem dX3_printDots_0 : decode cX3_printDots 0 = .ok (.iconst 0, 1) := sorry
theorem dX3_printDots_1 : decode cX3_printDots 1 = .ok (.istore_n 1, 1) := sorry
theorem dX3_printDots_2 : decode cX3_printDots 2 = .ok (.iload_n 1, 1) := sorry
theorem dX3_printDots_3 : decode cX3_printDots 3 = .ok (.aload_n 0, 1) := sorry
theorem dX3_printDots_4 : decode cX3_printDots 4 = .ok (.getfield 84, 3) := sorry
theorem dX3_printDots_7 : decode cX3_printDots 7 = .ok (.if_icmp .ge 119, 3) := sorry
theorem dX3_printDots_10 : decode cX3_printDots 10 = .ok (.aload_n 0, 1) := sorry
theorem dX3_printDots_11 : decode cX3_printDots 11 = .ok (.getfield 50, 3) := sorry
theorem dX3_printDots_14 : decode cX3_printDots 14 = .ok (.aload_n 0, 1) := sorry
theorem dX3_printDots_15 : decode cX3_printDots 15 = .ok (.getfield 37, 3) := sorry
theorem dX3_printDots_18 : decode cX3_printDots 18 = .ok (.invokevirtual 148, 3) := sorry
theorem dX3_printDots_21 : decode cX3_printDots 21 = .ok (.if_icmp .lt 11, 3) := sorry
theorem dX3_printDots_24 : decode cX3_printDots 24 = .ok (.new 157, 3) := sorry
theorem dX3_printDots_27 : decode cX3_printDots 27 = .ok (.dup, 1) := sorry
theorem dX3_printDots_28 : decode cX3_printDots 28 = .ok (.invokespecial 159, 3) := sorry
theorem dX3_printDots_31 : decode cX3_printDots 31 = .ok (.athrow, 1) := sorry
theorem dX3_printDots_32 : decode cX3_printDots 32 = .ok (.iload_n 1, 1) := sorry
theorem dX3_printDots_33 : decode cX3_printDots 33 = .ok (.i2l, 1) := sorry
theorem dX3_printDots_34 : decode cX3_printDots 34 = .ok (.aload_n 0, 1) := sorry
theorem dX3_printDots_35 : decode cX3_printDots 35 = .ok (.getfield 3, 3) := sorry
theorem dX3_printDots_38 : decode cX3_printDots 38 = .ok (.getfield 113, 3) := sorry
theorem dX3_printDots_41 : decode cX3_printDots 41 = .ok (.getfield 219, 3) := sorry
theorem dX3_printDots_44 : decode cX3_printDots 44 = .ok (.i2l, 1) := sorry
theorem dX3_printDots_45 : decode cX3_printDots 45 = .ok (.aload_n 0, 1) := sorry
theorem dX3_printDots_46 : decode cX3_printDots 46 = .ok (.getfield 3, 3) := sorry
theorem dX3_printDots_49 : decode cX3_printDots 49 = .ok (.getfield 113, 3) := sorry
theorem dX3_printDots_52 : decode cX3_printDots 52 = .ok (.getfield 219, 3) := sorry
theorem dX3_printDots_55 : decode cX3_printDots 55 = .ok (.aload_n 0, 1) := sorry
theorem dX3_printDots_56 : decode cX3_printDots 56 = .ok (.getfield 3, 3) := sorry
theorem dX3_printDots_59 : decode cX3_printDots 59 = .ok (.getfield 113, 3) := sorry
theorem dX3_printDots_62 : decode cX3_printDots 62 = .ok (.getfield 222, 3) := sorry
theorem dX3_printDots_65 : decode cX3_printDots 65 = .ok (.iadd, 1) := sorry
theorem dX3_printDots_66 : decode cX3_printDots 66 = .ok (.iconst 1, 1) := sorry
theorem dX3_printDots_67 : decode cX3_printDots 67 = .ok (.isub, 1) := sorry
theorem dX3_printDots_68 : decode cX3_printDots 68 = .ok (.i2l, 1) := sorry
theorem dX3_printDots_69 : decode cX3_printDots 69 = .ok (.invokestatic 225, 3) := sorry
theorem dX3_printDots_72 : decode cX3_printDots 72 = .ok (.istore_n 2, 1) := sorry
theorem dX3_printDots_73 : decode cX3_printDots 73 = .ok (.iload_n 2, 1) := sorry
theorem dX3_printDots_74 : decode cX3_printDots 74 = .ok (.ifCond .eq 18, 3) := sorry
theorem dX3_printDots_77 : decode cX3_printDots 77 = .ok (.aload_n 0, 1) := sorry
theorem dX3_printDots_78 : decode cX3_printDots 78 = .ok (.getfield 46, 3) := sorry
theorem dX3_printDots_81 : decode cX3_printDots 81 = .ok (.ifCond .ne 11, 3) := sorry
theorem dX3_printDots_84 : decode cX3_printDots 84 = .ok (.new 229, 3) := sorry
theorem dX3_printDots_87 : decode cX3_printDots 87 = .ok (.dup, 1) := sorry
theorem dX3_printDots_88 : decode cX3_printDots 88 = .ok (.invokespecial 231, 3) := sorry
theorem dX3_printDots_91 : decode cX3_printDots 91 = .ok (.athrow, 1) := sorry
theorem dX3_printDots_92 : decode cX3_printDots 92 = .ok (.iload_n 2, 1) := sorry
theorem dX3_printDots_93 : decode cX3_printDots 93 = .ok (.ifCond .eq 23, 3) := sorry
theorem dX3_printDots_96 : decode cX3_printDots 96 = .ok (.aload_n 0, 1) := sorry
theorem dX3_printDots_97 : decode cX3_printDots 97 = .ok (.dup, 1) := sorry
theorem dX3_printDots_98 : decode cX3_printDots 98 = .ok (.getfield 46, 3) := sorry
theorem dX3_printDots_101 : decode cX3_printDots 101 = .ok (.iconst 1, 1) := sorry
theorem dX3_printDots_102 : decode cX3_printDots 102 = .ok (.isub, 1) := sorry
theorem dX3_printDots_103 : decode cX3_printDots 103 = .ok (.putfield 46, 3) := sorry
theorem dX3_printDots_106 : decode cX3_printDots 106 = .ok (.aload_n 0, 1) := sorry
theorem dX3_printDots_107 : decode cX3_printDots 107 = .ok (.getfield 25, 3) := sorry
theorem dX3_printDots_110 : decode cX3_printDots 110 = .ok (.iconst 4, 1) := sorry
theorem dX3_printDots_111 : decode cX3_printDots 111 = .ok (.dup2, 1) := sorry
theorem dX3_printDots_112 : decode cX3_printDots 112 = .ok (.iaload, 1) := sorry
theorem dX3_printDots_113 : decode cX3_printDots 113 = .ok (.iconst 1, 1) := sorry
theorem dX3_printDots_114 : decode cX3_printDots 114 = .ok (.iadd, 1) := sorry
theorem dX3_printDots_115 : decode cX3_printDots 115 = .ok (.iastore, 1) := sorry
theorem dX3_printDots_116 : decode cX3_printDots 116 = .ok (.aload_n 0, 1) := sorry
theorem dX3_printDots_117 : decode cX3_printDots 117 = .ok (.invokevirtual 132, 3) := sorry
theorem dX3_printDots_120 : decode cX3_printDots 120 = .ok (.iinc 1 1, 3) := sorry
theorem dX3_printDots_123 : decode cX3_printDots 123 = .ok (.goto (-121), 3) := sorry
theorem dX3_printDots_126 : decode cX3_printDots 126 = .ok (.return_, 1) := sorry
abbrev cX3_sync : ByteArray := prog_11_method_19_code
def yX3_sync : MethodName := ⟨RX3, "sync", "(Ljava/lang/Exception;)V"⟩
def dkwX3_sync_5 : List UInt8 := [29, 42, 180, 0, 87, 96, 181, 0, 90, 177]
abbrev dktX3_sync_5 : List UInt8 := dkwX3_sync_5 ++ []
def dkwX3_sync_4 : List UInt8 := [167, 0, 6, 29, 28, 100, 181, 0, 62, 29, 2, 160, 0, 12, 187, 0, 182, 89, 43, 183, 0, 184, 191, 42]
abbrev dktX3_sync_4 : List UInt8 := dkwX3_sync_4 ++ dktX3_sync_5
def dkwX3_sync_3 : List UInt8 := [182, 1, 6, 153, 0, 8, 28, 21, 4, 100, 62, 132, 4, 255, 167, 255, 194, 42, 29, 2, 160, 0, 7, 3]
abbrev dktX3_sync_3 : List UInt8 := dkwX3_sync_3 ++ dktX3_sync_4
def dkwX3_sync_2 : List UInt8 := [153, 0, 8, 28, 21, 4, 96, 62, 28, 21, 4, 100, 42, 180, 0, 53, 163, 0, 19, 42, 28, 21, 4, 100]
abbrev dktX3_sync_2 : List UInt8 := dkwX3_sync_2 ++ dktX3_sync_3
def dkwX3_sync_1 : List UInt8 := [21, 4, 155, 0, 63, 28, 21, 4, 96, 42, 180, 0, 53, 163, 0, 19, 42, 28, 21, 4, 96, 182, 1, 6]
abbrev dktX3_sync_1 : List UInt8 := dkwX3_sync_1 ++ dktX3_sync_2
def dkwX3_sync_0 : List UInt8 := [42, 180, 0, 90, 42, 180, 0, 84, 96, 61, 2, 62, 42, 180, 0, 3, 180, 0, 113, 180, 1, 3, 54, 4]
abbrev dktX3_sync_0 : List UInt8 := dkwX3_sync_0 ++ dktX3_sync_1
theorem dksX3_sync_0 : cX3_sync.data.toList.drop 0 = dktX3_sync_0 := sorry
theorem dksX3_sync_1 : cX3_sync.data.toList.drop 24 = dktX3_sync_1 := sorry
theorem dksX3_sync_2 : cX3_sync.data.toList.drop 48 = dktX3_sync_2 := sorry
theorem dksX3_sync_3 : cX3_sync.data.toList.drop 72 = dktX3_sync_3 := sorry
theorem dksX3_sync_4 : cX3_sync.data.toList.drop 96 = dktX3_sync_4 := sorry
theorem dksX3_sync_5 : cX3_sync.data.toList.drop 120 = dktX3_sync_5 := sorry
theorem dX3_sync_0 : decode cX3_sync 0 = .ok (.aload_n 0, 1) := sorry
theorem dX3_sync_1 : decode cX3_sync 1 = .ok (.getfield 90, 3) := sorry
theorem dX3_sync_4 : decode cX3_sync 4 = .ok (.aload_n 0, 1) := sorry
theorem dX3_sync_5 : decode cX3_sync 5 = .ok (.getfield 84, 3) := sorry
theorem dX3_sync_8 : decode cX3_sync 8 = .ok (.iadd, 1) := sorry
theorem dX3_sync_9 : decode cX3_sync 9 = .ok (.istore_n 2, 1) := sorry
theorem dX3_sync_10 : decode cX3_sync 10 = .ok (.iconst (-1), 1) := sorry
theorem dX3_sync_11 : decode cX3_sync 11 = .ok (.istore_n 3, 1) := sorry
theorem dX3_sync_12 : decode cX3_sync 12 = .ok (.aload_n 0, 1) := sorry
theorem dX3_sync_13 : decode cX3_sync 13 = .ok (.getfield 3, 3) := sorry
theorem dX3_sync_16 : decode cX3_sync 16 = .ok (.getfield 113, 3) := sorry
theorem dX3_sync_19 : decode cX3_sync 19 = .ok (.getfield 259, 3) := sorry
theorem dX3_sync_22 : decode cX3_sync 22 = .ok (.istore 4, 2) := sorry
theorem dX3_sync_24 : decode cX3_sync 24 = .ok (.iload 4, 2) := sorry
theorem dX3_sync_26 : decode cX3_sync 26 = .ok (.ifCond .lt 63, 3) := sorry
theorem dX3_sync_29 : decode cX3_sync 29 = .ok (.iload_n 2, 1) := sorry
theorem dX3_sync_30 : decode cX3_sync 30 = .ok (.iload 4, 2) := sorry
theorem dX3_sync_32 : decode cX3_sync 32 = .ok (.iadd, 1) := sorry
theorem dX3_sync_33 : decode cX3_sync 33 = .ok (.aload_n 0, 1) := sorry
theorem dX3_sync_34 : decode cX3_sync 34 = .ok (.getfield 53, 3) := sorry
theorem dX3_sync_37 : decode cX3_sync 37 = .ok (.if_icmp .gt 19, 3) := sorry
theorem dX3_sync_40 : decode cX3_sync 40 = .ok (.aload_n 0, 1) := sorry
theorem dX3_sync_41 : decode cX3_sync 41 = .ok (.iload_n 2, 1) := sorry
theorem dX3_sync_42 : decode cX3_sync 42 = .ok (.iload 4, 2) := sorry
theorem dX3_sync_44 : decode cX3_sync 44 = .ok (.iadd, 1) := sorry
theorem dX3_sync_45 : decode cX3_sync 45 = .ok (.invokevirtual 262, 3) := sorry
theorem dX3_sync_48 : decode cX3_sync 48 = .ok (.ifCond .eq 8, 3) := sorry
theorem dX3_sync_51 : decode cX3_sync 51 = .ok (.iload_n 2, 1) := sorry
theorem dX3_sync_52 : decode cX3_sync 52 = .ok (.iload 4, 2) := sorry
theorem dX3_sync_54 : decode cX3_sync 54 = .ok (.iadd, 1) := sorry
theorem dX3_sync_55 : decode cX3_sync 55 = .ok (.istore_n 3, 1) := sorry
theorem dX3_sync_56 : decode cX3_sync 56 = .ok (.iload_n 2, 1) := sorry
theorem dX3_sync_57 : decode cX3_sync 57 = .ok (.iload 4, 2) := sorry
theorem dX3_sync_59 : decode cX3_sync 59 = .ok (.isub, 1) := sorry
theorem dX3_sync_60 : decode cX3_sync 60 = .ok (.aload_n 0, 1) := sorry
theorem dX3_sync_61 : decode cX3_sync 61 = .ok (.getfield 53, 3) := sorry
theorem dX3_sync_64 : decode cX3_sync 64 = .ok (.if_icmp .gt 19, 3) := sorry
theorem dX3_sync_67 : decode cX3_sync 67 = .ok (.aload_n 0, 1) := sorry
theorem dX3_sync_68 : decode cX3_sync 68 = .ok (.iload_n 2, 1) := sorry
theorem dX3_sync_69 : decode cX3_sync 69 = .ok (.iload 4, 2) := sorry
theorem dX3_sync_71 : decode cX3_sync 71 = .ok (.isub, 1) := sorry
theorem dX3_sync_72 : decode cX3_sync 72 = .ok (.invokevirtual 262, 3) := sorry
theorem dX3_sync_75 : decode cX3_sync 75 = .ok (.ifCond .eq 8, 3) := sorry
theorem dX3_sync_78 : decode cX3_sync 78 = .ok (.iload_n 2, 1) := sorry
theorem dX3_sync_79 : decode cX3_sync 79 = .ok (.iload 4, 2) := sorry
theorem dX3_sync_81 : decode cX3_sync 81 = .ok (.isub, 1) := sorry
theorem dX3_sync_82 : decode cX3_sync 82 = .ok (.istore_n 3, 1) := sorry
theorem dX3_sync_83 : decode cX3_sync 83 = .ok (.iinc 4 (-1), 3) := sorry
theorem dX3_sync_86 : decode cX3_sync 86 = .ok (.goto (-62), 3) := sorry
theorem dX3_sync_89 : decode cX3_sync 89 = .ok (.aload_n 0, 1) := sorry
theorem dX3_sync_90 : decode cX3_sync 90 = .ok (.iload_n 3, 1) := sorry
theorem dX3_sync_91 : decode cX3_sync 91 = .ok (.iconst (-1), 1) := sorry
theorem dX3_sync_92 : decode cX3_sync 92 = .ok (.if_icmp .ne 7, 3) := sorry
theorem dX3_sync_95 : decode cX3_sync 95 = .ok (.iconst 0, 1) := sorry
theorem dX3_sync_96 : decode cX3_sync 96 = .ok (.goto 6, 3) := sorry
theorem dX3_sync_99 : decode cX3_sync 99 = .ok (.iload_n 3, 1) := sorry
theorem dX3_sync_100 : decode cX3_sync 100 = .ok (.iload_n 2, 1) := sorry
theorem dX3_sync_101 : decode cX3_sync 101 = .ok (.isub, 1) := sorry
theorem dX3_sync_102 : decode cX3_sync 102 = .ok (.putfield 62, 3) := sorry
theorem dX3_sync_105 : decode cX3_sync 105 = .ok (.iload_n 3, 1) := sorry
theorem dX3_sync_106 : decode cX3_sync 106 = .ok (.iconst (-1), 1) := sorry
theorem dX3_sync_107 : decode cX3_sync 107 = .ok (.if_icmp .ne 12, 3) := sorry
theorem dX3_sync_110 : decode cX3_sync 110 = .ok (.new 182, 3) := sorry
theorem dX3_sync_113 : decode cX3_sync 113 = .ok (.dup, 1) := sorry
theorem dX3_sync_114 : decode cX3_sync 114 = .ok (.aload_n 1, 1) := sorry
theorem dX3_sync_115 : decode cX3_sync 115 = .ok (.invokespecial 184, 3) := sorry
theorem dX3_sync_118 : decode cX3_sync 118 = .ok (.athrow, 1) := sorry
theorem dX3_sync_119 : decode cX3_sync 119 = .ok (.aload_n 0, 1) := sorry
theorem dX3_sync_120 : decode cX3_sync 120 = .ok (.iload_n 3, 1) := sorry
theorem dX3_sync_121 : decode cX3_sync 121 = .ok (.aload_n 0, 1) := sorry
theorem dX3_sync_122 : decode cX3_sync 122 = .ok (.getfield 87, 3) := sorry
theorem dX3_sync_125 : decode cX3_sync 125 = .ok (.iadd, 1) := sorry
theorem dX3_sync_126 : decode cX3_sync 126 = .ok (.putfield 90, 3) := sorry
theorem dX3_sync_129 : decode cX3_sync 129 = .ok (.return_, 1) := sorry
abbrev cX3_record : ByteArray := prog_11_method_16_code
def yX3_record : MethodName := ⟨RX3, "record", "(LLabelDriver$Serial;I)V"⟩
def dkwX3_record_4 : List UInt8 := [180, 0, 65, 4, 96, 181, 0, 65, 177]
abbrev dktX3_record_4 : List UInt8 := dkwX3_record_4 ++ []
def dkwX3_record_3 : List UInt8 := [182, 0, 235, 46, 79, 78, 45, 3, 42, 180, 0, 15, 7, 42, 180, 0, 65, 104, 7, 184, 0, 68, 42, 89]
abbrev dktX3_record_3 : List UInt8 := dkwX3_record_3 ++ dktX3_record_4
def dkwX3_record_2 : List UInt8 := [180, 0, 19, 42, 43, 182, 0, 235, 46, 79, 89, 5, 28, 79, 89, 6, 42, 180, 0, 22, 42, 43]
abbrev dktX3_record_2 : List UInt8 := dkwX3_record_2 ++ dktX3_record_3
def dkwX3_record_1 : List UInt8 := [42, 89, 180, 0, 65, 4, 100, 181, 0, 65, 7, 188, 10, 89, 3, 43, 182, 0, 232, 79, 89, 4, 42]
abbrev dktX3_record_1 : List UInt8 := dkwX3_record_1 ++ dktX3_record_2
def dkwX3_record_0 : List UInt8 := [42, 180, 0, 65, 16, 24, 160, 0, 28, 42, 180, 0, 15, 7, 42, 180, 0, 15, 3, 16, 92, 184, 0, 68]
abbrev dktX3_record_0 : List UInt8 := dkwX3_record_0 ++ dktX3_record_1
theorem dksX3_record_0 : cX3_record.data.toList.drop 0 = dktX3_record_0 := sorry
theorem dksX3_record_1 : cX3_record.data.toList.drop 24 = dktX3_record_1 := sorry
theorem dksX3_record_2 : cX3_record.data.toList.drop 47 = dktX3_record_2 := sorry
theorem dksX3_record_3 : cX3_record.data.toList.drop 69 = dktX3_record_3 := sorry
theorem dksX3_record_4 : cX3_record.data.toList.drop 93 = dktX3_record_4 := sorry
theorem dX3_record_0 : decode cX3_record 0 = .ok (.aload_n 0, 1) := sorry
theorem dX3_record_1 : decode cX3_record 1 = .ok (.getfield 65, 3) := sorry
theorem dX3_record_4 : decode cX3_record 4 = .ok (.bipush 24, 2) := sorry
theorem dX3_record_6 : decode cX3_record 6 = .ok (.if_icmp .ne 28, 3) := sorry
theorem dX3_record_9 : decode cX3_record 9 = .ok (.aload_n 0, 1) := sorry
theorem dX3_record_10 : decode cX3_record 10 = .ok (.getfield 15, 3) := sorry
theorem dX3_record_13 : decode cX3_record 13 = .ok (.iconst 4, 1) := sorry
theorem dX3_record_14 : decode cX3_record 14 = .ok (.aload_n 0, 1) := sorry
theorem dX3_record_15 : decode cX3_record 15 = .ok (.getfield 15, 3) := sorry
theorem dX3_record_18 : decode cX3_record 18 = .ok (.iconst 0, 1) := sorry
theorem dX3_record_19 : decode cX3_record 19 = .ok (.bipush 92, 2) := sorry
theorem dX3_record_21 : decode cX3_record 21 = .ok (.invokestatic 68, 3) := sorry
theorem dX3_record_24 : decode cX3_record 24 = .ok (.aload_n 0, 1) := sorry
theorem dX3_record_25 : decode cX3_record 25 = .ok (.dup, 1) := sorry
theorem dX3_record_26 : decode cX3_record 26 = .ok (.getfield 65, 3) := sorry
theorem dX3_record_29 : decode cX3_record 29 = .ok (.iconst 1, 1) := sorry
theorem dX3_record_30 : decode cX3_record 30 = .ok (.isub, 1) := sorry
theorem dX3_record_31 : decode cX3_record 31 = .ok (.putfield 65, 3) := sorry
theorem dX3_record_34 : decode cX3_record 34 = .ok (.iconst 4, 1) := sorry
theorem dX3_record_35 : decode cX3_record 35 = .ok (.newarray .int, 2) := sorry
theorem dX3_record_37 : decode cX3_record 37 = .ok (.dup, 1) := sorry
theorem dX3_record_38 : decode cX3_record 38 = .ok (.iconst 0, 1) := sorry
theorem dX3_record_39 : decode cX3_record 39 = .ok (.aload_n 1, 1) := sorry
theorem dX3_record_40 : decode cX3_record 40 = .ok (.invokevirtual 232, 3) := sorry
theorem dX3_record_43 : decode cX3_record 43 = .ok (.iastore, 1) := sorry
theorem dX3_record_44 : decode cX3_record 44 = .ok (.dup, 1) := sorry
theorem dX3_record_45 : decode cX3_record 45 = .ok (.iconst 1, 1) := sorry
theorem dX3_record_46 : decode cX3_record 46 = .ok (.aload_n 0, 1) := sorry
theorem dX3_record_47 : decode cX3_record 47 = .ok (.getfield 19, 3) := sorry
theorem dX3_record_50 : decode cX3_record 50 = .ok (.aload_n 0, 1) := sorry
theorem dX3_record_51 : decode cX3_record 51 = .ok (.aload_n 1, 1) := sorry
theorem dX3_record_52 : decode cX3_record 52 = .ok (.invokevirtual 235, 3) := sorry
theorem dX3_record_55 : decode cX3_record 55 = .ok (.iaload, 1) := sorry
theorem dX3_record_56 : decode cX3_record 56 = .ok (.iastore, 1) := sorry
theorem dX3_record_57 : decode cX3_record 57 = .ok (.dup, 1) := sorry
theorem dX3_record_58 : decode cX3_record 58 = .ok (.iconst 2, 1) := sorry
theorem dX3_record_59 : decode cX3_record 59 = .ok (.iload_n 2, 1) := sorry
theorem dX3_record_60 : decode cX3_record 60 = .ok (.iastore, 1) := sorry
theorem dX3_record_61 : decode cX3_record 61 = .ok (.dup, 1) := sorry
theorem dX3_record_62 : decode cX3_record 62 = .ok (.iconst 3, 1) := sorry
theorem dX3_record_63 : decode cX3_record 63 = .ok (.aload_n 0, 1) := sorry
theorem dX3_record_64 : decode cX3_record 64 = .ok (.getfield 22, 3) := sorry
theorem dX3_record_67 : decode cX3_record 67 = .ok (.aload_n 0, 1) := sorry
theorem dX3_record_68 : decode cX3_record 68 = .ok (.aload_n 1, 1) := sorry
theorem dX3_record_69 : decode cX3_record 69 = .ok (.invokevirtual 235, 3) := sorry
theorem dX3_record_72 : decode cX3_record 72 = .ok (.iaload, 1) := sorry
theorem dX3_record_73 : decode cX3_record 73 = .ok (.iastore, 1) := sorry
theorem dX3_record_74 : decode cX3_record 74 = .ok (.astore_n 3, 1) := sorry
theorem dX3_record_75 : decode cX3_record 75 = .ok (.aload_n 3, 1) := sorry
theorem dX3_record_76 : decode cX3_record 76 = .ok (.iconst 0, 1) := sorry
theorem dX3_record_77 : decode cX3_record 77 = .ok (.aload_n 0, 1) := sorry
theorem dX3_record_78 : decode cX3_record 78 = .ok (.getfield 15, 3) := sorry
theorem dX3_record_81 : decode cX3_record 81 = .ok (.iconst 4, 1) := sorry
theorem dX3_record_82 : decode cX3_record 82 = .ok (.aload_n 0, 1) := sorry
theorem dX3_record_83 : decode cX3_record 83 = .ok (.getfield 65, 3) := sorry
theorem dX3_record_86 : decode cX3_record 86 = .ok (.imul, 1) := sorry
theorem dX3_record_87 : decode cX3_record 87 = .ok (.iconst 4, 1) := sorry
theorem dX3_record_88 : decode cX3_record 88 = .ok (.invokestatic 68, 3) := sorry
theorem dX3_record_91 : decode cX3_record 91 = .ok (.aload_n 0, 1) := sorry
theorem dX3_record_92 : decode cX3_record 92 = .ok (.dup, 1) := sorry
theorem dX3_record_93 : decode cX3_record 93 = .ok (.getfield 65, 3) := sorry
theorem dX3_record_96 : decode cX3_record 96 = .ok (.iconst 1, 1) := sorry
theorem dX3_record_97 : decode cX3_record 97 = .ok (.iadd, 1) := sorry
theorem dX3_record_98 : decode cX3_record 98 = .ok (.putfield 65, 3) := sorry
theorem dX3_record_101 : decode cX3_record 101 = .ok (.return_, 1) := sorry
abbrev cX3_isListed : ByteArray := prog_11_method_24_code
def yX3_isListed : MethodName := ⟨RX3, "isListed", "(LLabelDriver$Serial;)Z"⟩
def dkwX3_isListed_1 : List UInt8 := [192, 0, 107, 78, 45, 43, 182, 1, 37, 153, 0, 5, 4, 172, 167, 255, 227, 3, 172]
abbrev dktX3_isListed_1 : List UInt8 := dkwX3_isListed_1 ++ []
def dkwX3_isListed_0 : List UInt8 := [42, 180, 0, 33, 182, 0, 93, 77, 44, 185, 0, 97, 1, 0, 153, 0, 26, 44, 185, 0, 103, 1, 0]
abbrev dktX3_isListed_0 : List UInt8 := dkwX3_isListed_0 ++ dktX3_isListed_1
theorem dksX3_isListed_0 : cX3_isListed.data.toList.drop 0 = dktX3_isListed_0 := sorry
theorem dksX3_isListed_1 : cX3_isListed.data.toList.drop 23 = dktX3_isListed_1 := sorry
theorem dX3_isListed_0 : decode cX3_isListed 0 = .ok (.aload_n 0, 1) := sorry
theorem dX3_isListed_1 : decode cX3_isListed 1 = .ok (.getfield 33, 3) := sorry
theorem dX3_isListed_4 : decode cX3_isListed 4 = .ok (.invokevirtual 93, 3) := sorry
theorem dX3_isListed_7 : decode cX3_isListed 7 = .ok (.astore_n 2, 1) := sorry
theorem dX3_isListed_8 : decode cX3_isListed 8 = .ok (.aload_n 2, 1) := sorry
theorem dX3_isListed_9 : decode cX3_isListed 9 = .ok (.invokeinterface 97 1, 5) := sorry
theorem dX3_isListed_14 : decode cX3_isListed 14 = .ok (.ifCond .eq 26, 3) := sorry
theorem dX3_isListed_17 : decode cX3_isListed 17 = .ok (.aload_n 2, 1) := sorry
theorem dX3_isListed_18 : decode cX3_isListed 18 = .ok (.invokeinterface 103 1, 5) := sorry
theorem dX3_isListed_23 : decode cX3_isListed 23 = .ok (.checkcast 107, 3) := sorry
theorem dX3_isListed_26 : decode cX3_isListed 26 = .ok (.astore_n 3, 1) := sorry
theorem dX3_isListed_27 : decode cX3_isListed 27 = .ok (.aload_n 3, 1) := sorry
theorem dX3_isListed_28 : decode cX3_isListed 28 = .ok (.aload_n 1, 1) := sorry
theorem dX3_isListed_29 : decode cX3_isListed 29 = .ok (.invokevirtual 293, 3) := sorry
theorem dX3_isListed_32 : decode cX3_isListed 32 = .ok (.ifCond .eq 5, 3) := sorry
theorem dX3_isListed_35 : decode cX3_isListed 35 = .ok (.iconst 1, 1) := sorry
theorem dX3_isListed_36 : decode cX3_isListed 36 = .ok (.ireturn, 1) := sorry
theorem dX3_isListed_37 : decode cX3_isListed 37 = .ok (.goto (-29), 3) := sorry
theorem dX3_isListed_40 : decode cX3_isListed 40 = .ok (.iconst 0, 1) := sorry
theorem dX3_isListed_41 : decode cX3_isListed 41 = .ok (.ireturn, 1) := sorry
abbrev cX3_unlist : ByteArray := prog_11_method_23_code
def yX3_unlist : MethodName := ⟨RX3, "unlist", "(II)V"⟩
def dkwX3_unlist_2 : List UInt8 := [180, 0, 33, 25, 5, 182, 0, 109, 132, 4, 1, 167, 255, 210, 177]
abbrev dktX3_unlist_2 : List UInt8 := dkwX3_unlist_2 ++ []
def dkwX3_unlist_1 : List UInt8 := [192, 0, 107, 58, 5, 25, 5, 182, 0, 232, 133, 27, 133, 28, 133, 184, 0, 225, 154, 0, 12, 42]
abbrev dktX3_unlist_1 : List UInt8 := dkwX3_unlist_1 ++ dktX3_unlist_2
def dkwX3_unlist_0 : List UInt8 := [42, 180, 0, 33, 182, 1, 36, 62, 3, 54, 4, 21, 4, 29, 162, 0, 46, 42, 180, 0, 33, 182, 1, 15]
abbrev dktX3_unlist_0 : List UInt8 := dkwX3_unlist_0 ++ dktX3_unlist_1
theorem dksX3_unlist_0 : cX3_unlist.data.toList.drop 0 = dktX3_unlist_0 := sorry
theorem dksX3_unlist_1 : cX3_unlist.data.toList.drop 24 = dktX3_unlist_1 := sorry
theorem dksX3_unlist_2 : cX3_unlist.data.toList.drop 46 = dktX3_unlist_2 := sorry
theorem dX3_unlist_0 : decode cX3_unlist 0 = .ok (.aload_n 0, 1) := sorry
theorem dX3_unlist_1 : decode cX3_unlist 1 = .ok (.getfield 33, 3) := sorry
theorem dX3_unlist_4 : decode cX3_unlist 4 = .ok (.invokevirtual 292, 3) := sorry
theorem dX3_unlist_7 : decode cX3_unlist 7 = .ok (.istore_n 3, 1) := sorry
theorem dX3_unlist_8 : decode cX3_unlist 8 = .ok (.iconst 0, 1) := sorry
theorem dX3_unlist_9 : decode cX3_unlist 9 = .ok (.istore 4, 2) := sorry
theorem dX3_unlist_11 : decode cX3_unlist 11 = .ok (.iload 4, 2) := sorry
theorem dX3_unlist_13 : decode cX3_unlist 13 = .ok (.iload_n 3, 1) := sorry
theorem dX3_unlist_14 : decode cX3_unlist 14 = .ok (.if_icmp .ge 46, 3) := sorry
theorem dX3_unlist_17 : decode cX3_unlist 17 = .ok (.aload_n 0, 1) := sorry
theorem dX3_unlist_18 : decode cX3_unlist 18 = .ok (.getfield 33, 3) := sorry
theorem dX3_unlist_21 : decode cX3_unlist 21 = .ok (.invokevirtual 271, 3) := sorry
theorem dX3_unlist_24 : decode cX3_unlist 24 = .ok (.checkcast 107, 3) := sorry
theorem dX3_unlist_27 : decode cX3_unlist 27 = .ok (.astore 5, 2) := sorry
theorem dX3_unlist_29 : decode cX3_unlist 29 = .ok (.aload 5, 2) := sorry
theorem dX3_unlist_31 : decode cX3_unlist 31 = .ok (.invokevirtual 232, 3) := sorry
theorem dX3_unlist_34 : decode cX3_unlist 34 = .ok (.i2l, 1) := sorry
theorem dX3_unlist_35 : decode cX3_unlist 35 = .ok (.iload_n 1, 1) := sorry
theorem dX3_unlist_36 : decode cX3_unlist 36 = .ok (.i2l, 1) := sorry
theorem dX3_unlist_37 : decode cX3_unlist 37 = .ok (.iload_n 2, 1) := sorry
theorem dX3_unlist_38 : decode cX3_unlist 38 = .ok (.i2l, 1) := sorry
theorem dX3_unlist_39 : decode cX3_unlist 39 = .ok (.invokestatic 225, 3) := sorry
theorem dX3_unlist_42 : decode cX3_unlist 42 = .ok (.ifCond .ne 12, 3) := sorry
theorem dX3_unlist_45 : decode cX3_unlist 45 = .ok (.aload_n 0, 1) := sorry
theorem dX3_unlist_46 : decode cX3_unlist 46 = .ok (.getfield 33, 3) := sorry
theorem dX3_unlist_49 : decode cX3_unlist 49 = .ok (.aload 5, 2) := sorry
theorem dX3_unlist_51 : decode cX3_unlist 51 = .ok (.invokevirtual 109, 3) := sorry
theorem dX3_unlist_54 : decode cX3_unlist 54 = .ok (.iinc 4 1, 3) := sorry
theorem dX3_unlist_57 : decode cX3_unlist 57 = .ok (.goto (-46), 3) := sorry
theorem dX3_unlist_60 : decode cX3_unlist 60 = .ok (.return_, 1) := sorry
theorem q106 : (Jvm.Cond.initialized "LabelDriver$State") ∈ lw_all := sorry
theorem q514 : (Jvm.Cond.fieldLinkNest "LabelDriver$State" (199 : Nat) "LabelDriver$Settings" "batches" "Ljava/util/ArrayList;" "LabelDriver") ∈ lw_tbl := sorry
theorem q516 : (Jvm.Cond.fieldLinkNest "LabelDriver$State" (117 : Nat) "LabelDriver$Settings" "sensor" "I" "LabelDriver") ∈ lw_tbl := sorry
theorem q521 : (Jvm.Cond.fieldLinkNest "LabelDriver$State" (265 : Nat) "LabelDriver$Settings" "edge" "I" "LabelDriver") ∈ lw_tbl := sorry
theorem q524 : (Jvm.Cond.fieldLinkNest "LabelDriver$State" (259 : Nat) "LabelDriver$Settings" "tolerance" "I" "LabelDriver") ∈ lw_tbl := sorry
theorem q526 : (Jvm.Cond.fieldLinkNest "LabelDriver$State" (219 : Nat) "LabelDriver$Settings" "top" "I" "LabelDriver") ∈ lw_tbl := sorry
theorem q530 : (Jvm.Cond.fieldLinkNest "LabelDriver$State" (222 : Nat) "LabelDriver$Settings" "height" "I" "LabelDriver") ∈ lw_tbl := sorry
theorem q548 : (Jvm.Cond.instantiable "LabelDriver$State" (20 : Nat)) ∈ lw_all := sorry
theorem q550 : (Jvm.Cond.instanceMethod ({ cls := "LabelDriver$State", name := "<init>", desc := "(LLabelDriver;)V" } : Jvm.MethodName)) ∈ lw_all := sorry
theorem q551 : (Jvm.Cond.code ({ cls := "LabelDriver$State", name := "<init>", desc := "(LLabelDriver;)V" } : Jvm.MethodName) prog_11_method_1_code (2 : Nat) (Option.none : Option Jvm.ClassFile.FieldType)) ∈ lw_all := sorry
theorem q552 : (Jvm.Cond.methodLink "LabelDriver$State" (9 : Nat) ({ cls := "java/lang/Object", name := "<init>", desc := "()V" } : Jvm.MethodName)) ∈ lw_all := sorry
theorem q553 : (Jvm.Cond.classLink "LabelDriver$State" (28 : Nat) "java/util/ArrayDeque") ∈ lw_all := sorry
theorem q554 : (Jvm.Cond.methodLink "LabelDriver$State" (30 : Nat) ({ cls := "java/util/ArrayDeque", name := "<init>", desc := "(I)V" } : Jvm.MethodName)) ∈ lw_all := sorry
theorem q558 : (Jvm.Cond.fieldLink "LabelDriver$State" (37 : Nat) "LabelDriver$State" "roll" "LLabelDriver$Roll;") ∈ lw_all := sorry
theorem q560 : (Jvm.Cond.fieldLink "LabelDriver$State" (46 : Nat) "LabelDriver$State" "ribbon" "I") ∈ lw_all := sorry
theorem q562 : (Jvm.Cond.fieldLink "LabelDriver$State" (50 : Nat) "LabelDriver$State" "position" "I") ∈ lw_all := sorry
theorem q564 : (Jvm.Cond.fieldLink "LabelDriver$State" (53 : Nat) "LabelDriver$State" "seen" "I") ∈ lw_all := sorry
theorem q566 : (Jvm.Cond.fieldLink "LabelDriver$State" (56 : Nat) "LabelDriver$State" "trouble" "I") ∈ lw_all := sorry
theorem q568 : (Jvm.Cond.fieldLink "LabelDriver$State" (59 : Nat) "LabelDriver$State" "cause" "I") ∈ lw_all := sorry
theorem q570 : (Jvm.Cond.fieldLink "LabelDriver$State" (62 : Nat) "LabelDriver$State" "shift" "I") ∈ lw_all := sorry
theorem q572 : (Jvm.Cond.fieldLink "LabelDriver$State" (65 : Nat) "LabelDriver$State" "logged" "I") ∈ lw_all := sorry
theorem q574 : (Jvm.Cond.fieldLink "LabelDriver$State" (15 : Nat) "LabelDriver$State" "log" "[I") ∈ lw_all := sorry
theorem q576 : (Jvm.Cond.fieldLink "LabelDriver$State" (74 : Nat) "LabelDriver$State" "isReady" "Z") ∈ lw_all := sorry
theorem q578 : (Jvm.Cond.fieldLink "LabelDriver$State" (78 : Nat) "LabelDriver$State" "gapsAreLight" "Z") ∈ lw_all := sorry
theorem q580 : (Jvm.Cond.fieldLink "LabelDriver$State" (81 : Nat) "LabelDriver$State" "threshold" "I") ∈ lw_all := sorry
theorem q582 : (Jvm.Cond.fieldLink "LabelDriver$State" (84 : Nat) "LabelDriver$State" "label" "I") ∈ lw_all := sorry
theorem q584 : (Jvm.Cond.fieldLink "LabelDriver$State" (87 : Nat) "LabelDriver$State" "gap" "I") ∈ lw_all := sorry
theorem q586 : (Jvm.Cond.fieldLink "LabelDriver$State" (90 : Nat) "LabelDriver$State" "form" "I") ∈ lw_all := sorry
theorem q588 : (Jvm.Cond.fieldLink "LabelDriver$State" (19 : Nat) "LabelDriver$State" "state" "[I") ∈ lw_all := sorry
theorem q590 : (Jvm.Cond.fieldLink "LabelDriver$State" (22 : Nat) "LabelDriver$State" "attempts" "[I") ∈ lw_all := sorry
theorem q592 : (Jvm.Cond.fieldLink "LabelDriver$State" (25 : Nat) "LabelDriver$State" "totals" "[I") ∈ lw_all := sorry
theorem q594 : (Jvm.Cond.fieldLink "LabelDriver$State" (33 : Nat) "LabelDriver$State" "list" "Ljava/util/ArrayDeque;") ∈ lw_all := sorry
theorem q596 : (Jvm.Cond.fieldLink "LabelDriver$State" (3 : Nat) "LabelDriver$State" "this$0" "LLabelDriver;") ∈ lw_all := sorry
theorem q597 : (Jvm.Cond.lays "LabelDriver$State" "LabelDriver$State" "roll" "LLabelDriver$Roll;") ∈ lw_all := sorry
theorem q598 : (Jvm.Cond.soleField "LabelDriver$State" "roll") ∈ lw_all := sorry
theorem q599 : (Jvm.Cond.lays "LabelDriver$State" "LabelDriver$State" "ribbon" "I") ∈ lw_all := sorry
theorem q600 : (Jvm.Cond.soleField "LabelDriver$State" "ribbon") ∈ lw_all := sorry
theorem q601 : (Jvm.Cond.lays "LabelDriver$State" "LabelDriver$State" "position" "I") ∈ lw_all := sorry
theorem q602 : (Jvm.Cond.soleField "LabelDriver$State" "position") ∈ lw_all := sorry
theorem q603 : (Jvm.Cond.lays "LabelDriver$State" "LabelDriver$State" "seen" "I") ∈ lw_all := sorry
theorem q604 : (Jvm.Cond.soleField "LabelDriver$State" "seen") ∈ lw_all := sorry
theorem q605 : (Jvm.Cond.lays "LabelDriver$State" "LabelDriver$State" "trouble" "I") ∈ lw_all := sorry
theorem q606 : (Jvm.Cond.soleField "LabelDriver$State" "trouble") ∈ lw_all := sorry
theorem q607 : (Jvm.Cond.lays "LabelDriver$State" "LabelDriver$State" "cause" "I") ∈ lw_all := sorry
theorem q608 : (Jvm.Cond.soleField "LabelDriver$State" "cause") ∈ lw_all := sorry
theorem q609 : (Jvm.Cond.lays "LabelDriver$State" "LabelDriver$State" "shift" "I") ∈ lw_all := sorry
theorem q610 : (Jvm.Cond.soleField "LabelDriver$State" "shift") ∈ lw_all := sorry
theorem q611 : (Jvm.Cond.lays "LabelDriver$State" "LabelDriver$State" "logged" "I") ∈ lw_all := sorry
theorem q612 : (Jvm.Cond.soleField "LabelDriver$State" "logged") ∈ lw_all := sorry
theorem q613 : (Jvm.Cond.laysFinal "LabelDriver$State" "LabelDriver$State" "log" "[I") ∈ lw_all := sorry
theorem q614 : (Jvm.Cond.soleField "LabelDriver$State" "log") ∈ lw_all := sorry
theorem q615 : (Jvm.Cond.lays "LabelDriver$State" "LabelDriver$State" "isReady" "Z") ∈ lw_all := sorry
theorem q616 : (Jvm.Cond.soleField "LabelDriver$State" "isReady") ∈ lw_all := sorry
theorem q617 : (Jvm.Cond.lays "LabelDriver$State" "LabelDriver$State" "gapsAreLight" "Z") ∈ lw_all := sorry
theorem q618 : (Jvm.Cond.soleField "LabelDriver$State" "gapsAreLight") ∈ lw_all := sorry
theorem q619 : (Jvm.Cond.lays "LabelDriver$State" "LabelDriver$State" "threshold" "I") ∈ lw_all := sorry
theorem q620 : (Jvm.Cond.soleField "LabelDriver$State" "threshold") ∈ lw_all := sorry
theorem q621 : (Jvm.Cond.lays "LabelDriver$State" "LabelDriver$State" "label" "I") ∈ lw_all := sorry
theorem q622 : (Jvm.Cond.soleField "LabelDriver$State" "label") ∈ lw_all := sorry
theorem q623 : (Jvm.Cond.lays "LabelDriver$State" "LabelDriver$State" "gap" "I") ∈ lw_all := sorry
theorem q624 : (Jvm.Cond.soleField "LabelDriver$State" "gap") ∈ lw_all := sorry
theorem q625 : (Jvm.Cond.lays "LabelDriver$State" "LabelDriver$State" "form" "I") ∈ lw_all := sorry
theorem q626 : (Jvm.Cond.soleField "LabelDriver$State" "form") ∈ lw_all := sorry
theorem q627 : (Jvm.Cond.laysFinal "LabelDriver$State" "LabelDriver$State" "state" "[I") ∈ lw_all := sorry
theorem q628 : (Jvm.Cond.soleField "LabelDriver$State" "state") ∈ lw_all := sorry
theorem q629 : (Jvm.Cond.laysFinal "LabelDriver$State" "LabelDriver$State" "attempts" "[I") ∈ lw_all := sorry
theorem q630 : (Jvm.Cond.soleField "LabelDriver$State" "attempts") ∈ lw_all := sorry
theorem q631 : (Jvm.Cond.laysFinal "LabelDriver$State" "LabelDriver$State" "totals" "[I") ∈ lw_all := sorry
theorem q632 : (Jvm.Cond.soleField "LabelDriver$State" "totals") ∈ lw_all := sorry
theorem q633 : (Jvm.Cond.laysFinal "LabelDriver$State" "LabelDriver$State" "list" "Ljava/util/ArrayDeque;") ∈ lw_all := sorry
theorem q634 : (Jvm.Cond.soleField "LabelDriver$State" "list") ∈ lw_all := sorry
theorem q635 : (Jvm.Cond.laysFinal "LabelDriver$State" "LabelDriver$State" "this$0" "LLabelDriver;") ∈ lw_all := sorry
theorem q636 : (Jvm.Cond.soleField "LabelDriver$State" "this$0") ∈ lw_all := sorry
theorem q637 : (Jvm.Cond.superclass "LabelDriver$State" "java/lang/Object") ∈ lw_all := sorry
theorem q644 : (Jvm.Cond.fieldLinkNest "LabelDriver$State" (113 : Nat) "LabelDriver" "settings" "LLabelDriver$Settings;" "LabelDriver") ∈ lw_tbl := sorry
theorem q815 : (Jvm.Cond.privateMethod ({ cls := "LabelDriver$State", name := "isBeginning", desc := "(I)Z" } : Jvm.MethodName)) ∈ lw_tbl := sorry
theorem q816 : (Jvm.Cond.instanceMethod ({ cls := "LabelDriver$State", name := "isBeginning", desc := "(I)Z" } : Jvm.MethodName)) ∈ lw_all := sorry
theorem q817 : (Jvm.Cond.code ({ cls := "LabelDriver$State", name := "isBeginning", desc := "(I)Z" } : Jvm.MethodName) prog_11_method_7_code (2 : Nat) (Option.some Jvm.ClassFile.FieldType.boolean)) ∈ lw_all := sorry
theorem q818 : (Jvm.Cond.methodLink "LabelDriver$State" (139 : Nat) ({ cls := "LabelDriver$State", name := "isGap", desc := "(I)Z" } : Jvm.MethodName)) ∈ lw_all := sorry
theorem q819 : (Jvm.Cond.privateMethod ({ cls := "LabelDriver$State", name := "isGap", desc := "(I)Z" } : Jvm.MethodName)) ∈ lw_tbl := sorry
theorem q820 : (Jvm.Cond.instanceMethod ({ cls := "LabelDriver$State", name := "isGap", desc := "(I)Z" } : Jvm.MethodName)) ∈ lw_all := sorry
theorem q821 : (Jvm.Cond.code ({ cls := "LabelDriver$State", name := "isGap", desc := "(I)Z" } : Jvm.MethodName) prog_11_method_6_code (2 : Nat) (Option.some Jvm.ClassFile.FieldType.boolean)) ∈ lw_all := sorry
theorem q822 : (Jvm.Cond.methodLink "LabelDriver$State" (135 : Nat) ({ cls := "LabelDriver$Roll", name := "lightAt", desc := "(I)I" } : Jvm.MethodName)) ∈ lw_all := sorry
theorem q878 : (Jvm.Cond.instanceMethod ({ cls := "LabelDriver$State", name := "next", desc := "()LLabelDriver$Serial;" } : Jvm.MethodName)) ∈ lw_all := sorry
theorem q879 : (Jvm.Cond.selects "LabelDriver$State" ({ cls := "LabelDriver$State", name := "next", desc := "()LLabelDriver$Serial;" } : Jvm.MethodName) ({ cls := "LabelDriver$State", name := "next", desc := "()LLabelDriver$Serial;" } : Jvm.MethodName)) ∈ lw_all := sorry
theorem q880 : (Jvm.Cond.code ({ cls := "LabelDriver$State", name := "next", desc := "()LLabelDriver$Serial;" } : Jvm.MethodName) prog_11_method_14_code (3 : Nat) (Option.some (Jvm.ClassFile.FieldType.object "LabelDriver$Serial"))) ∈ lw_all := sorry
theorem q881 : (Jvm.Cond.methodLink "LabelDriver$State" (193 : Nat) ({ cls := "java/util/ArrayDeque", name := "isEmpty", desc := "()Z" } : Jvm.MethodName)) ∈ lw_all := sorry
theorem q885 : (Jvm.Cond.methodLink "LabelDriver$State" (196 : Nat) ({ cls := "java/util/ArrayDeque", name := "getFirst", desc := "()Ljava/lang/Object;" } : Jvm.MethodName)) ∈ lw_all := sorry
theorem q894 : (Jvm.Cond.classLink "LabelDriver$State" (107 : Nat) "LabelDriver$Serial") ∈ lw_all := sorry
theorem q895 : (Jvm.Cond.methodLink "LabelDriver$State" (203 : Nat) ({ cls := "java/util/ArrayList", name := "size", desc := "()I" } : Jvm.MethodName)) ∈ lw_all := sorry
theorem q896 : (Jvm.Cond.methodLink "LabelDriver$State" (208 : Nat) ({ cls := "java/util/ArrayList", name := "get", desc := "(I)Ljava/lang/Object;" } : Jvm.MethodName)) ∈ lw_all := sorry
theorem q897 : (Jvm.Cond.classLink "LabelDriver$State" (212 : Nat) "LabelDriver$Batch") ∈ lw_all := sorry
theorem q899 : (Jvm.Cond.methodLink "LabelDriver$State" (217 : Nat) ({ cls := "LabelDriver$Serial", name := "<init>", desc := "(II)V" } : Jvm.MethodName)) ∈ lw_all := sorry
theorem q904 : (Jvm.Cond.fieldLinkNest "LabelDriver$State" (187 : Nat) "LabelDriver$Serial" "batch" "I" "LabelDriver") ∈ lw_tbl := sorry
theorem q906 : (Jvm.Cond.fieldLinkNest "LabelDriver$State" (190 : Nat) "LabelDriver$Serial" "serial" "I" "LabelDriver") ∈ lw_tbl := sorry
theorem q1232 : (Jvm.Cond.fieldLinkNest "LabelDriver$State" (214 : Nat) "LabelDriver$Batch" "count" "I" "LabelDriver") ∈ lw_tbl := sorry
theorem q1241 : (Jvm.Cond.fieldLinkNest "LabelDriver$State" (250 : Nat) "LabelDriver$Batch" "isAgain" "Z" "LabelDriver") ∈ lw_tbl := sorry
theorem q1296 : (Jvm.Cond.selects "LabelDriver$State" ({ cls := "java/lang/Object", name := "getClass", desc := "()Ljava/lang/Class;" } : Jvm.MethodName) ({ cls := "java/lang/Object", name := "getClass", desc := "()Ljava/lang/Class;" } : Jvm.MethodName)) ∈ lw_all := sorry
theorem q1362 : (Jvm.Cond.instanceMethod ({ cls := "LabelDriver$State", name := "<init>", desc := "(LLabelDriver;LLabelDriver$State;)V" } : Jvm.MethodName)) ∈ lw_all := sorry
theorem q1363 : (Jvm.Cond.code ({ cls := "LabelDriver$State", name := "<init>", desc := "(LLabelDriver;LLabelDriver$State;)V" } : Jvm.MethodName) prog_11_method_2_code (5 : Nat) (Option.none : Option Jvm.ClassFile.FieldType)) ∈ lw_all := sorry
theorem q1364 : (Jvm.Cond.classLink "LabelDriver$State" (41 : Nat) "LabelDriver$Roll") ∈ lw_all := sorry
theorem q1366 : (Jvm.Cond.methodLink "LabelDriver$State" (43 : Nat) ({ cls := "LabelDriver$Roll", name := "<init>", desc := "(LLabelDriver$Roll;)V" } : Jvm.MethodName)) ∈ lw_all := sorry
theorem q1396 : (Jvm.Cond.methodLink "LabelDriver$State" (68 : Nat) ({ cls := "java/lang/System", name := "arraycopy", desc := "(Ljava/lang/Object;ILjava/lang/Object;II)V" } : Jvm.MethodName)) ∈ lw_all := sorry
theorem q1397 : (Jvm.Cond.methodLink "LabelDriver$State" (93 : Nat) ({ cls := "java/util/ArrayDeque", name := "iterator", desc := "()Ljava/util/Iterator;" } : Jvm.MethodName)) ∈ lw_all := sorry
theorem q1398 : (Jvm.Cond.interfaceEntry "LabelDriver$State" (97 : Nat)) ∈ lw_tbl := sorry
theorem q1399 : (Jvm.Cond.methodLink "LabelDriver$State" (97 : Nat) ({ cls := "java/util/Iterator", name := "hasNext", desc := "()Z" } : Jvm.MethodName)) ∈ lw_all := sorry
theorem q1400 : (Jvm.Cond.interfaceEntry "LabelDriver$State" (103 : Nat)) ∈ lw_tbl := sorry
theorem q1401 : (Jvm.Cond.methodLink "LabelDriver$State" (103 : Nat) ({ cls := "java/util/Iterator", name := "next", desc := "()Ljava/lang/Object;" } : Jvm.MethodName)) ∈ lw_all := sorry
theorem q1402 : (Jvm.Cond.methodLink "LabelDriver$State" (109 : Nat) ({ cls := "java/util/ArrayDeque", name := "addLast", desc := "(Ljava/lang/Object;)V" } : Jvm.MethodName)) ∈ lw_all := sorry
theorem q1536 : (Jvm.Cond.instanceMethod ({ cls := "LabelDriver$State", name := "feedTo", desc := "(I)V" } : Jvm.MethodName)) ∈ lw_all := sorry
theorem q1537 : (Jvm.Cond.selects "LabelDriver$State" ({ cls := "LabelDriver$State", name := "feedTo", desc := "(I)V" } : Jvm.MethodName) ({ cls := "LabelDriver$State", name := "feedTo", desc := "(I)V" } : Jvm.MethodName)) ∈ lw_all := sorry
theorem q1538 : (Jvm.Cond.code ({ cls := "LabelDriver$State", name := "feedTo", desc := "(I)V" } : Jvm.MethodName) prog_11_method_5_code (2 : Nat) (Option.none : Option Jvm.ClassFile.FieldType)) ∈ lw_all := sorry
theorem q1539 : (Jvm.Cond.methodLink "LabelDriver$State" (132 : Nat) ({ cls := "LabelDriver$State", name := "forward", desc := "()V" } : Jvm.MethodName)) ∈ lw_all := sorry
theorem q1540 : (Jvm.Cond.instanceMethod ({ cls := "LabelDriver$State", name := "forward", desc := "()V" } : Jvm.MethodName)) ∈ lw_all := sorry
theorem q1541 : (Jvm.Cond.selects "LabelDriver$State" ({ cls := "LabelDriver$State", name := "forward", desc := "()V" } : Jvm.MethodName) ({ cls := "LabelDriver$State", name := "forward", desc := "()V" } : Jvm.MethodName)) ∈ lw_all := sorry
theorem q1542 : (Jvm.Cond.code ({ cls := "LabelDriver$State", name := "forward", desc := "()V" } : Jvm.MethodName) prog_11_method_4_code (1 : Nat) (Option.none : Option Jvm.ClassFile.FieldType)) ∈ lw_all := sorry
theorem q1543 : (Jvm.Cond.methodLink "LabelDriver$State" (122 : Nat) ({ cls := "LabelDriver$State", name := "underSensor", desc := "()I" } : Jvm.MethodName)) ∈ lw_all := sorry
theorem q1544 : (Jvm.Cond.instanceMethod ({ cls := "LabelDriver$State", name := "underSensor", desc := "()I" } : Jvm.MethodName)) ∈ lw_all := sorry
theorem q1545 : (Jvm.Cond.selects "LabelDriver$State" ({ cls := "LabelDriver$State", name := "underSensor", desc := "()I" } : Jvm.MethodName) ({ cls := "LabelDriver$State", name := "underSensor", desc := "()I" } : Jvm.MethodName)) ∈ lw_all := sorry
theorem q1546 : (Jvm.Cond.code ({ cls := "LabelDriver$State", name := "underSensor", desc := "()I" } : Jvm.MethodName) prog_11_method_3_code (1 : Nat) (Option.some Jvm.ClassFile.FieldType.int)) ∈ lw_all := sorry
theorem q1547 : (Jvm.Cond.methodLink "LabelDriver$State" (126 : Nat) ({ cls := "java/lang/Math", name := "max", desc := "(II)I" } : Jvm.MethodName)) ∈ lw_all := sorry
theorem q1568 : (Jvm.Cond.instanceMethod ({ cls := "LabelDriver$State", name := "learn", desc := "()V" } : Jvm.MethodName)) ∈ lw_all := sorry
theorem q1569 : (Jvm.Cond.selects "LabelDriver$State" ({ cls := "LabelDriver$State", name := "learn", desc := "()V" } : Jvm.MethodName) ({ cls := "LabelDriver$State", name := "learn", desc := "()V" } : Jvm.MethodName)) ∈ lw_all := sorry
theorem q1570 : (Jvm.Cond.code ({ cls := "LabelDriver$State", name := "learn", desc := "()V" } : Jvm.MethodName) prog_11_method_10_code (4 : Nat) (Option.none : Option Jvm.ClassFile.FieldType)) ∈ lw_all := sorry
theorem q1571 : (Jvm.Cond.methodLink "LabelDriver$State" (148 : Nat) ({ cls := "LabelDriver$Roll", name := "end", desc := "()I" } : Jvm.MethodName)) ∈ lw_all := sorry
theorem q1572 : (Jvm.Cond.methodLink "LabelDriver$State" (151 : Nat) ({ cls := "java/lang/Math", name := "min", desc := "(II)I" } : Jvm.MethodName)) ∈ lw_all := sorry
theorem q1573 : (Jvm.Cond.methodLink "LabelDriver$State" (154 : Nat) ({ cls := "LabelDriver$State", name := "feedTo", desc := "(I)V" } : Jvm.MethodName)) ∈ lw_all := sorry
theorem q1574 : (Jvm.Cond.classLink "LabelDriver$State" (157 : Nat) "LabelDriver$WebOut") ∈ lw_all := sorry
theorem q1583 : (Jvm.Cond.methodLink "LabelDriver$State" (159 : Nat) ({ cls := "LabelDriver$WebOut", name := "<init>", desc := "()V" } : Jvm.MethodName)) ∈ lw_all := sorry
theorem q1591 : (Jvm.Cond.fieldLinkNest "LabelDriver$State" (287 : Nat) "LabelDriver$Trouble" "code" "I" "LabelDriver") ∈ lw_tbl := sorry
theorem q1596 : (Jvm.Cond.methodLink "LabelDriver$State" (160 : Nat) ({ cls := "LabelDriver$State", name := "setThreshold", desc := "(II)V" } : Jvm.MethodName)) ∈ lw_all := sorry
theorem q1597 : (Jvm.Cond.privateMethod ({ cls := "LabelDriver$State", name := "setThreshold", desc := "(II)V" } : Jvm.MethodName)) ∈ lw_tbl := sorry
theorem q1598 : (Jvm.Cond.instanceMethod ({ cls := "LabelDriver$State", name := "setThreshold", desc := "(II)V" } : Jvm.MethodName)) ∈ lw_all := sorry
theorem q1599 : (Jvm.Cond.code ({ cls := "LabelDriver$State", name := "setThreshold", desc := "(II)V" } : Jvm.MethodName) prog_11_method_11_code (7 : Nat) (Option.none : Option Jvm.ClassFile.FieldType)) ∈ lw_all := sorry
theorem q1600 : (Jvm.Cond.classLink "LabelDriver$State" (167 : Nat) "LabelDriver$NoContrast") ∈ lw_all := sorry
theorem q1609 : (Jvm.Cond.methodLink "LabelDriver$State" (169 : Nat) ({ cls := "LabelDriver$NoContrast", name := "<init>", desc := "()V" } : Jvm.MethodName)) ∈ lw_all := sorry
theorem q1616 : (Jvm.Cond.methodLink "LabelDriver$State" (164 : Nat) ({ cls := "LabelDriver$State", name := "findPitch", desc := "(II)V" } : Jvm.MethodName)) ∈ lw_all := sorry
theorem q1617 : (Jvm.Cond.privateMethod ({ cls := "LabelDriver$State", name := "findPitch", desc := "(II)V" } : Jvm.MethodName)) ∈ lw_tbl := sorry
theorem q1618 : (Jvm.Cond.instanceMethod ({ cls := "LabelDriver$State", name := "findPitch", desc := "(II)V" } : Jvm.MethodName)) ∈ lw_all := sorry
theorem q1619 : (Jvm.Cond.code ({ cls := "LabelDriver$State", name := "findPitch", desc := "(II)V" } : Jvm.MethodName) prog_11_method_12_code (8 : Nat) (Option.none : Option Jvm.ClassFile.FieldType)) ∈ lw_all := sorry
theorem q1620 : (Jvm.Cond.methodLink "LabelDriver$State" (170 : Nat) ({ cls := "LabelDriver$State", name := "beginnings", desc := "(II)Ljava/util/Iterator;" } : Jvm.MethodName)) ∈ lw_all := sorry
theorem q1621 : (Jvm.Cond.privateMethod ({ cls := "LabelDriver$State", name := "beginnings", desc := "(II)Ljava/util/Iterator;" } : Jvm.MethodName)) ∈ lw_tbl := sorry
theorem q1622 : (Jvm.Cond.instanceMethod ({ cls := "LabelDriver$State", name := "beginnings", desc := "(II)Ljava/util/Iterator;" } : Jvm.MethodName)) ∈ lw_all := sorry
theorem q1623 : (Jvm.Cond.code ({ cls := "LabelDriver$State", name := "beginnings", desc := "(II)Ljava/util/Iterator;" } : Jvm.MethodName) prog_11_method_8_code (3 : Nat) (Option.some (Jvm.ClassFile.FieldType.object "java/util/Iterator"))) ∈ lw_all := sorry
theorem q1624 : (Jvm.Cond.classLink "LabelDriver$State" (143 : Nat) "LabelDriver$State$1") ∈ lw_all := sorry
theorem q1625 : (Jvm.Cond.methodLink "LabelDriver$State" (145 : Nat) ({ cls := "LabelDriver$State$1", name := "<init>", desc := "(LLabelDriver$State;II)V" } : Jvm.MethodName)) ∈ lw_all := sorry
theorem q1642 : (Jvm.Cond.classLink "LabelDriver$State" (174 : Nat) "java/lang/Integer") ∈ lw_all := sorry
theorem q1643 : (Jvm.Cond.methodLink "LabelDriver$State" (176 : Nat) ({ cls := "java/lang/Integer", name := "intValue", desc := "()I" } : Jvm.MethodName)) ∈ lw_all := sorry
theorem q1647 : (Jvm.Cond.methodLink "LabelDriver$State" (179 : Nat) ({ cls := "LabelDriver$State", name := "behind", desc := "(II)I" } : Jvm.MethodName)) ∈ lw_all := sorry
theorem q1648 : (Jvm.Cond.privateMethod ({ cls := "LabelDriver$State", name := "behind", desc := "(II)I" } : Jvm.MethodName)) ∈ lw_tbl := sorry
theorem q1649 : (Jvm.Cond.instanceMethod ({ cls := "LabelDriver$State", name := "behind", desc := "(II)I" } : Jvm.MethodName)) ∈ lw_all := sorry
theorem q1650 : (Jvm.Cond.code ({ cls := "LabelDriver$State", name := "behind", desc := "(II)I" } : Jvm.MethodName) prog_11_method_9_code (4 : Nat) (Option.some Jvm.ClassFile.FieldType.int)) ∈ lw_all := sorry
theorem q1651 : (Jvm.Cond.classLink "LabelDriver$State" (182 : Nat) "LabelDriver$Lost") ∈ lw_all := sorry
theorem q1660 : (Jvm.Cond.methodLink "LabelDriver$State" (184 : Nat) ({ cls := "LabelDriver$Lost", name := "<init>", desc := "(Ljava/lang/Exception;)V" } : Jvm.MethodName)) ∈ lw_all := sorry
theorem q1668 : (Jvm.Cond.instanceMethod ({ cls := "LabelDriver$State", name := "note", desc := "(LLabelDriver$Trouble;)V" } : Jvm.MethodName)) ∈ lw_all := sorry
theorem q1669 : (Jvm.Cond.selects "LabelDriver$State" ({ cls := "LabelDriver$State", name := "note", desc := "(LLabelDriver$Trouble;)V" } : Jvm.MethodName) ({ cls := "LabelDriver$State", name := "note", desc := "(LLabelDriver$Trouble;)V" } : Jvm.MethodName)) ∈ lw_all := sorry
theorem q1670 : (Jvm.Cond.code ({ cls := "LabelDriver$State", name := "note", desc := "(LLabelDriver$Trouble;)V" } : Jvm.MethodName) prog_11_method_22_code (2 : Nat) (Option.none : Option Jvm.ClassFile.FieldType)) ∈ lw_all := sorry
theorem q1724 : (Jvm.Cond.instanceMethod ({ cls := "LabelDriver$State", name := "tearPlace", desc := "()I" } : Jvm.MethodName)) ∈ lw_all := sorry
theorem q1725 : (Jvm.Cond.selects "LabelDriver$State" ({ cls := "LabelDriver$State", name := "tearPlace", desc := "()I" } : Jvm.MethodName) ({ cls := "LabelDriver$State", name := "tearPlace", desc := "()I" } : Jvm.MethodName)) ∈ lw_all := sorry
theorem q1726 : (Jvm.Cond.code ({ cls := "LabelDriver$State", name := "tearPlace", desc := "()I" } : Jvm.MethodName) prog_11_method_20_code (1 : Nat) (Option.some Jvm.ClassFile.FieldType.int)) ∈ lw_all := sorry
theorem q1807 : (Jvm.Cond.instanceMethod ({ cls := "LabelDriver$State", name := "run", desc := "(I)I" } : Jvm.MethodName)) ∈ lw_all := sorry
theorem q1808 : (Jvm.Cond.selects "LabelDriver$State" ({ cls := "LabelDriver$State", name := "run", desc := "(I)I" } : Jvm.MethodName) ({ cls := "LabelDriver$State", name := "run", desc := "(I)I" } : Jvm.MethodName)) ∈ lw_all := sorry
theorem q1809 : (Jvm.Cond.codeWith ({ cls := "LabelDriver$State", name := "run", desc := "(I)I" } : Jvm.MethodName) prog_11_method_21_code (7 : Nat) (Option.some Jvm.ClassFile.FieldType.int) [((19 : Nat), (71 : Nat), (74 : Nat), (277 : Nat))]) ∈ lw_all := sorry
theorem q1810 : (Jvm.Cond.classLink "LabelDriver$State" (277 : Nat) "LabelDriver$Trouble") ∈ lw_all := sorry
theorem q1811 : (Jvm.Cond.methodLink "LabelDriver$State" (268 : Nat) ({ cls := "LabelDriver$State", name := "next", desc := "()LLabelDriver$Serial;" } : Jvm.MethodName)) ∈ lw_all := sorry
theorem q1812 : (Jvm.Cond.methodLink "LabelDriver$State" (271 : Nat) ({ cls := "java/util/ArrayDeque", name := "removeFirst", desc := "()Ljava/lang/Object;" } : Jvm.MethodName)) ∈ lw_all := sorry
theorem q1813 : (Jvm.Cond.methodLink "LabelDriver$State" (274 : Nat) ({ cls := "LabelDriver$State", name := "print", desc := "(LLabelDriver$Serial;)V" } : Jvm.MethodName)) ∈ lw_all := sorry
theorem q1814 : (Jvm.Cond.privateMethod ({ cls := "LabelDriver$State", name := "print", desc := "(LLabelDriver$Serial;)V" } : Jvm.MethodName)) ∈ lw_tbl := sorry
theorem q1815 : (Jvm.Cond.instanceMethod ({ cls := "LabelDriver$State", name := "print", desc := "(LLabelDriver$Serial;)V" } : Jvm.MethodName)) ∈ lw_all := sorry
theorem q1816 : (Jvm.Cond.codeWith ({ cls := "LabelDriver$State", name := "print", desc := "(LLabelDriver$Serial;)V" } : Jvm.MethodName) prog_11_method_17_code (4 : Nat) (Option.none : Option Jvm.ClassFile.FieldType) [((5 : Nat), (10 : Nat), (19 : Nat), (0 : Nat))]) ∈ lw_all := sorry
theorem q1817 : (Jvm.Cond.methodLink "LabelDriver$State" (239 : Nat) ({ cls := "LabelDriver$State", name := "printAt", desc := "(LLabelDriver$Serial;)V" } : Jvm.MethodName)) ∈ lw_all := sorry
theorem q1818 : (Jvm.Cond.privateMethod ({ cls := "LabelDriver$State", name := "printAt", desc := "(LLabelDriver$Serial;)V" } : Jvm.MethodName)) ∈ lw_tbl := sorry
theorem q1819 : (Jvm.Cond.instanceMethod ({ cls := "LabelDriver$State", name := "printAt", desc := "(LLabelDriver$Serial;)V" } : Jvm.MethodName)) ∈ lw_all := sorry
theorem q1820 : (Jvm.Cond.codeWith ({ cls := "LabelDriver$State", name := "printAt", desc := "(LLabelDriver$Serial;)V" } : Jvm.MethodName) prog_11_method_18_code (4 : Nat) (Option.none : Option Jvm.ClassFile.FieldType) [((34 : Nat), (59 : Nat), (62 : Nat), (229 : Nat)), ((34 : Nat), (59 : Nat), (62 : Nat), (157 : Nat))]) ∈ lw_all := sorry
theorem q1821 : (Jvm.Cond.classLink "LabelDriver$State" (229 : Nat) "LabelDriver$RibbonOut") ∈ lw_all := sorry
theorem q1822 : (Jvm.Cond.methodLink "LabelDriver$State" (235 : Nat) ({ cls := "LabelDriver$State", name := "place", desc := "(LLabelDriver$Serial;)I" } : Jvm.MethodName)) ∈ lw_all := sorry
theorem q1823 : (Jvm.Cond.privateMethod ({ cls := "LabelDriver$State", name := "place", desc := "(LLabelDriver$Serial;)I" } : Jvm.MethodName)) ∈ lw_tbl := sorry
theorem q1824 : (Jvm.Cond.instanceMethod ({ cls := "LabelDriver$State", name := "place", desc := "(LLabelDriver$Serial;)I" } : Jvm.MethodName)) ∈ lw_all := sorry
theorem q1825 : (Jvm.Cond.code ({ cls := "LabelDriver$State", name := "place", desc := "(LLabelDriver$Serial;)I" } : Jvm.MethodName) prog_11_method_13_code (2 : Nat) (Option.some Jvm.ClassFile.FieldType.int)) ∈ lw_all := sorry
theorem q1826 : (Jvm.Cond.methodLink "LabelDriver$State" (247 : Nat) ({ cls := "LabelDriver$State", name := "printDots", desc := "()V" } : Jvm.MethodName)) ∈ lw_all := sorry
theorem q1827 : (Jvm.Cond.privateMethod ({ cls := "LabelDriver$State", name := "printDots", desc := "()V" } : Jvm.MethodName)) ∈ lw_tbl := sorry
theorem q1828 : (Jvm.Cond.instanceMethod ({ cls := "LabelDriver$State", name := "printDots", desc := "()V" } : Jvm.MethodName)) ∈ lw_all := sorry
theorem q1829 : (Jvm.Cond.code ({ cls := "LabelDriver$State", name := "printDots", desc := "()V" } : Jvm.MethodName) prog_11_method_15_code (3 : Nat) (Option.none : Option Jvm.ClassFile.FieldType)) ∈ lw_all := sorry
theorem q1830 : (Jvm.Cond.methodLinkNest "LabelDriver$State" (225 : Nat) ({ cls := "LabelDriver", name := "in", desc := "(JJJ)Z" } : Jvm.MethodName) "LabelDriver") ∈ lw_tbl := sorry
theorem q1839 : (Jvm.Cond.methodLink "LabelDriver$State" (231 : Nat) ({ cls := "LabelDriver$RibbonOut", name := "<init>", desc := "()V" } : Jvm.MethodName)) ∈ lw_all := sorry
theorem q1846 : (Jvm.Cond.methodLink "LabelDriver$State" (253 : Nat) ({ cls := "java/util/ArrayDeque", name := "addFirst", desc := "(Ljava/lang/Object;)V" } : Jvm.MethodName)) ∈ lw_all := sorry
theorem q1850 : (Jvm.Cond.methodLink "LabelDriver$State" (256 : Nat) ({ cls := "LabelDriver$State", name := "sync", desc := "(Ljava/lang/Exception;)V" } : Jvm.MethodName)) ∈ lw_all := sorry
theorem q1851 : (Jvm.Cond.privateMethod ({ cls := "LabelDriver$State", name := "sync", desc := "(Ljava/lang/Exception;)V" } : Jvm.MethodName)) ∈ lw_tbl := sorry
theorem q1852 : (Jvm.Cond.instanceMethod ({ cls := "LabelDriver$State", name := "sync", desc := "(Ljava/lang/Exception;)V" } : Jvm.MethodName)) ∈ lw_all := sorry
theorem q1853 : (Jvm.Cond.code ({ cls := "LabelDriver$State", name := "sync", desc := "(Ljava/lang/Exception;)V" } : Jvm.MethodName) prog_11_method_19_code (5 : Nat) (Option.none : Option Jvm.ClassFile.FieldType)) ∈ lw_all := sorry
theorem q1854 : (Jvm.Cond.methodLink "LabelDriver$State" (262 : Nat) ({ cls := "LabelDriver$State", name := "isBeginning", desc := "(I)Z" } : Jvm.MethodName)) ∈ lw_all := sorry
theorem q1855 : (Jvm.Cond.methodLink "LabelDriver$State" (243 : Nat) ({ cls := "LabelDriver$State", name := "record", desc := "(LLabelDriver$Serial;I)V" } : Jvm.MethodName)) ∈ lw_all := sorry
theorem q1856 : (Jvm.Cond.privateMethod ({ cls := "LabelDriver$State", name := "record", desc := "(LLabelDriver$Serial;I)V" } : Jvm.MethodName)) ∈ lw_tbl := sorry
theorem q1857 : (Jvm.Cond.instanceMethod ({ cls := "LabelDriver$State", name := "record", desc := "(LLabelDriver$Serial;I)V" } : Jvm.MethodName)) ∈ lw_all := sorry
theorem q1858 : (Jvm.Cond.code ({ cls := "LabelDriver$State", name := "record", desc := "(LLabelDriver$Serial;I)V" } : Jvm.MethodName) prog_11_method_16_code (4 : Nat) (Option.none : Option Jvm.ClassFile.FieldType)) ∈ lw_all := sorry
theorem q1859 : (Jvm.Cond.methodLink "LabelDriver$State" (232 : Nat) ({ cls := "LabelDriver$Serial", name := "code", desc := "()I" } : Jvm.MethodName)) ∈ lw_all := sorry
theorem q1860 : (Jvm.Cond.methodLink "LabelDriver$State" (279 : Nat) ({ cls := "LabelDriver$State", name := "note", desc := "(LLabelDriver$Trouble;)V" } : Jvm.MethodName)) ∈ lw_all := sorry
theorem q1861 : (Jvm.Cond.methodLink "LabelDriver$State" (283 : Nat) ({ cls := "LabelDriver$Trouble", name := "getCause", desc := "()Ljava/lang/Throwable;" } : Jvm.MethodName)) ∈ lw_all := sorry
theorem q1870 : (Jvm.Cond.methodLink "LabelDriver$State" (289 : Nat) ({ cls := "LabelDriver$State", name := "tearPlace", desc := "()I" } : Jvm.MethodName)) ∈ lw_all := sorry
theorem q1900 : (Jvm.Cond.instanceMethod ({ cls := "LabelDriver$State", name := "isListed", desc := "(LLabelDriver$Serial;)Z" } : Jvm.MethodName)) ∈ lw_all := sorry
theorem q1901 : (Jvm.Cond.selects "LabelDriver$State" ({ cls := "LabelDriver$State", name := "isListed", desc := "(LLabelDriver$Serial;)Z" } : Jvm.MethodName) ({ cls := "LabelDriver$State", name := "isListed", desc := "(LLabelDriver$Serial;)Z" } : Jvm.MethodName)) ∈ lw_all := sorry
theorem q1902 : (Jvm.Cond.code ({ cls := "LabelDriver$State", name := "isListed", desc := "(LLabelDriver$Serial;)Z" } : Jvm.MethodName) prog_11_method_24_code (4 : Nat) (Option.some Jvm.ClassFile.FieldType.boolean)) ∈ lw_all := sorry
theorem q1903 : (Jvm.Cond.methodLink "LabelDriver$State" (293 : Nat) ({ cls := "LabelDriver$Serial", name := "isSame", desc := "(LLabelDriver$Serial;)Z" } : Jvm.MethodName)) ∈ lw_all := sorry
theorem q1916 : (Jvm.Cond.instanceMethod ({ cls := "LabelDriver$State", name := "unlist", desc := "(II)V" } : Jvm.MethodName)) ∈ lw_all := sorry
theorem q1917 : (Jvm.Cond.selects "LabelDriver$State" ({ cls := "LabelDriver$State", name := "unlist", desc := "(II)V" } : Jvm.MethodName) ({ cls := "LabelDriver$State", name := "unlist", desc := "(II)V" } : Jvm.MethodName)) ∈ lw_all := sorry
theorem q1918 : (Jvm.Cond.code ({ cls := "LabelDriver$State", name := "unlist", desc := "(II)V" } : Jvm.MethodName) prog_11_method_23_code (6 : Nat) (Option.none : Option Jvm.ClassFile.FieldType)) ∈ lw_all := sorry
theorem q1919 : (Jvm.Cond.methodLink "LabelDriver$State" (292 : Nat) ({ cls := "java/util/ArrayDeque", name := "size", desc := "()I" } : Jvm.MethodName)) ∈ lw_all := sorry
theorem q2644 : (Jvm.Cond.castable "LabelDriver$State" "java/lang/Object") ∈ lw_tbl := sorry
theorem in_X3 : ∀ w ∈ wsX30, w ∈ lw_all := sorry
/-! LabelDriver$Parser -/
set_option maxRecDepth 100000
def RX5 : String := "LabelDriver$Parser"
def TX5 : u_T := fun k => match k with
  | 0 => ("LabelDriver$Parser", "read", "LLabelDriver$Settings;", true)
  | 1 => ("LabelDriver$Parser", "size", "I", true)
  | 2 => ("LabelDriver$Parser", "at", "I", false)
  | _ => ("LabelDriver$Parser", "this$0", "LLabelDriver;", true)
def tyX5 : Nat → FieldType := fun k => match k with
  | 0 => .object "LabelDriver$Settings"
  | 1 => .int
  | 2 => .int
  | _ => .object "LabelDriver"
abbrev wsX50 : List Cond := u_ws RX5 TX5 4
theorem nmX5 : ∀ a, a < 4 → ∀ b, b < 4 → a ≠ b → (TX5 a).2.1 ≠ (TX5 b).2.1 := sorry
theorem tyX5_ok : ∀ k, k < 4 → parseFieldDescriptor (TX5 k).2.2.1 = some (tyX5 k) := sorry
abbrev cX5_init : ByteArray := prog_6_method_1_code
def yX5_init : MethodName := ⟨RX5, "<init>", "(LLabelDriver;I)V"⟩
def dkwX5_init_1 : List UInt8 := [181, 0, 22, 177]
abbrev dktX5_init_1 : List UInt8 := dkwX5_init_1 ++ []
def dkwX5_init_0 : List UInt8 := [42, 43, 181, 0, 3, 42, 183, 0, 9, 42, 187, 0, 15, 89, 183, 0, 17, 181, 0, 18, 42, 28]
abbrev dktX5_init_0 : List UInt8 := dkwX5_init_0 ++ dktX5_init_1
theorem dksX5_init_0 : cX5_init.data.toList.drop 0 = dktX5_init_0 := sorry
theorem dksX5_init_1 : cX5_init.data.toList.drop 22 = dktX5_init_1 := sorry
theorem dX5_init_0 : decode cX5_init 0 = .ok (.aload_n 0, 1) := sorry
theorem dX5_init_1 : decode cX5_init 1 = .ok (.aload_n 1, 1) := sorry
theorem dX5_init_2 : decode cX5_init 2 = .ok (.putfield 3, 3) := sorry
theorem dX5_init_5 : decode cX5_init 5 = .ok (.aload_n 0, 1) := sorry
theorem dX5_init_6 : decode cX5_init 6 = .ok (.invokespecial 9, 3) := sorry
theorem dX5_init_9 : decode cX5_init 9 = .ok (.aload_n 0, 1) := sorry
theorem dX5_init_10 : decode cX5_init 10 = .ok (.new 15, 3) := sorry
theorem dX5_init_13 : decode cX5_init 13 = .ok (.dup, 1) := sorry
theorem dX5_init_14 : decode cX5_init 14 = .ok (.invokespecial 17, 3) := sorry
theorem dX5_init_17 : decode cX5_init 17 = .ok (.putfield 18, 3) := sorry
theorem dX5_init_20 : decode cX5_init 20 = .ok (.aload_n 0, 1) := sorry
theorem dX5_init_21 : decode cX5_init 21 = .ok (.iload_n 2, 1) := sorry
theorem dX5_init_22 : decode cX5_init 22 = .ok (.putfield 22, 3) := sorry
theorem dX5_init_25 : decode cX5_init 25 = .ok (.return_, 1) := sorry
abbrev cX5_parse : ByteArray := prog_6_method_9_code
def yX5_parse : MethodName := ⟨RX5, "parse", "()V"⟩
def dkwX5_parse_2 : List UInt8 := [96, 181, 0, 30, 167, 255, 206, 177]
abbrev dktX5_parse_2 : List UInt8 := dkwX5_parse_2 ++ []
def dkwX5_parse_1 : List UInt8 := [182, 0, 42, 16, 59, 16, 59, 182, 0, 33, 4, 42, 182, 0, 42, 182, 0, 69, 42, 89, 180, 0, 30, 4]
abbrev dktX5_parse_1 : List UInt8 := dkwX5_parse_1 ++ dktX5_parse_2
def dkwX5_parse_0 : List UInt8 := [42, 182, 0, 42, 42, 180, 0, 22, 162, 0, 45, 42, 42, 182, 0, 42, 182, 0, 85, 42, 42, 42]
abbrev dktX5_parse_0 : List UInt8 := dkwX5_parse_0 ++ dktX5_parse_1
theorem dksX5_parse_0 : cX5_parse.data.toList.drop 0 = dktX5_parse_0 := sorry
theorem dksX5_parse_1 : cX5_parse.data.toList.drop 22 = dktX5_parse_1 := sorry
theorem dksX5_parse_2 : cX5_parse.data.toList.drop 46 = dktX5_parse_2 := sorry
theorem dX5_parse_0 : decode cX5_parse 0 = .ok (.aload_n 0, 1) := sorry
theorem dX5_parse_1 : decode cX5_parse 1 = .ok (.invokevirtual 42, 3) := sorry
theorem dX5_parse_4 : decode cX5_parse 4 = .ok (.aload_n 0, 1) := sorry
theorem dX5_parse_5 : decode cX5_parse 5 = .ok (.getfield 22, 3) := sorry
theorem dX5_parse_8 : decode cX5_parse 8 = .ok (.if_icmp .ge 45, 3) := sorry
theorem dX5_parse_11 : decode cX5_parse 11 = .ok (.aload_n 0, 1) := sorry
theorem dX5_parse_12 : decode cX5_parse 12 = .ok (.aload_n 0, 1) := sorry
theorem dX5_parse_13 : decode cX5_parse 13 = .ok (.invokevirtual 42, 3) := sorry
theorem dX5_parse_16 : decode cX5_parse 16 = .ok (.invokevirtual 85, 3) := sorry
theorem dX5_parse_19 : decode cX5_parse 19 = .ok (.aload_n 0, 1) := sorry
theorem dX5_parse_20 : decode cX5_parse 20 = .ok (.aload_n 0, 1) := sorry
theorem dX5_parse_21 : decode cX5_parse 21 = .ok (.aload_n 0, 1) := sorry
theorem dX5_parse_22 : decode cX5_parse 22 = .ok (.invokevirtual 42, 3) := sorry
theorem dX5_parse_25 : decode cX5_parse 25 = .ok (.bipush 59, 2) := sorry
theorem dX5_parse_27 : decode cX5_parse 27 = .ok (.bipush 59, 2) := sorry
theorem dX5_parse_29 : decode cX5_parse 29 = .ok (.invokevirtual 33, 3) := sorry
theorem dX5_parse_32 : decode cX5_parse 32 = .ok (.iconst 1, 1) := sorry
theorem dX5_parse_33 : decode cX5_parse 33 = .ok (.aload_n 0, 1) := sorry
theorem dX5_parse_34 : decode cX5_parse 34 = .ok (.invokevirtual 42, 3) := sorry
theorem dX5_parse_37 : decode cX5_parse 37 = .ok (.invokevirtual 69, 3) := sorry
theorem dX5_parse_40 : decode cX5_parse 40 = .ok (.aload_n 0, 1) := sorry
theorem dX5_parse_41 : decode cX5_parse 41 = .ok (.dup, 1) := sorry
theorem dX5_parse_42 : decode cX5_parse 42 = .ok (.getfield 30, 3) := sorry
theorem dX5_parse_45 : decode cX5_parse 45 = .ok (.iconst 1, 1) := sorry
theorem dX5_parse_46 : decode cX5_parse 46 = .ok (.iadd, 1) := sorry
theorem dX5_parse_47 : decode cX5_parse 47 = .ok (.putfield 30, 3) := sorry
theorem dX5_parse_50 : decode cX5_parse 50 = .ok (.goto (-50), 3) := sorry
theorem dX5_parse_53 : decode cX5_parse 53 = .ok (.return_, 1) := sorry
abbrev cX5_skip : ByteArray := prog_6_method_3_code
def yX5_skip : MethodName := ⟨RX5, "skip", "()I"⟩
def dkwX5_skip_1 : List UInt8 := [182, 0, 33, 153, 0, 16, 42, 89, 180, 0, 30, 4, 96, 181, 0, 30, 167, 255, 216, 42, 180, 0, 30, 172]
abbrev dktX5_skip_1 : List UInt8 := dkwX5_skip_1 ++ []
def dkwX5_skip_0 : List UInt8 := [42, 42, 180, 0, 30, 16, 9, 16, 10, 182, 0, 33, 154, 0, 18, 42, 42, 180, 0, 30, 16, 32, 16, 32]
abbrev dktX5_skip_0 : List UInt8 := dkwX5_skip_0 ++ dktX5_skip_1
theorem dksX5_skip_0 : cX5_skip.data.toList.drop 0 = dktX5_skip_0 := sorry
theorem dksX5_skip_1 : cX5_skip.data.toList.drop 24 = dktX5_skip_1 := sorry
theorem dX5_skip_0 : decode cX5_skip 0 = .ok (.aload_n 0, 1) := sorry
theorem dX5_skip_1 : decode cX5_skip 1 = .ok (.aload_n 0, 1) := sorry
theorem dX5_skip_2 : decode cX5_skip 2 = .ok (.getfield 30, 3) := sorry
theorem dX5_skip_5 : decode cX5_skip 5 = .ok (.bipush 9, 2) := sorry
theorem dX5_skip_7 : decode cX5_skip 7 = .ok (.bipush 10, 2) := sorry
theorem dX5_skip_9 : decode cX5_skip 9 = .ok (.invokevirtual 33, 3) := sorry
theorem dX5_skip_12 : decode cX5_skip 12 = .ok (.ifCond .ne 18, 3) := sorry
theorem dX5_skip_15 : decode cX5_skip 15 = .ok (.aload_n 0, 1) := sorry
theorem dX5_skip_16 : decode cX5_skip 16 = .ok (.aload_n 0, 1) := sorry
theorem dX5_skip_17 : decode cX5_skip 17 = .ok (.getfield 30, 3) := sorry
theorem dX5_skip_20 : decode cX5_skip 20 = .ok (.bipush 32, 2) := sorry
theorem dX5_skip_22 : decode cX5_skip 22 = .ok (.bipush 32, 2) := sorry
theorem dX5_skip_24 : decode cX5_skip 24 = .ok (.invokevirtual 33, 3) := sorry
theorem dX5_skip_27 : decode cX5_skip 27 = .ok (.ifCond .eq 16, 3) := sorry
theorem dX5_skip_30 : decode cX5_skip 30 = .ok (.aload_n 0, 1) := sorry
theorem dX5_skip_31 : decode cX5_skip 31 = .ok (.dup, 1) := sorry
theorem dX5_skip_32 : decode cX5_skip 32 = .ok (.getfield 30, 3) := sorry
theorem dX5_skip_35 : decode cX5_skip 35 = .ok (.iconst 1, 1) := sorry
theorem dX5_skip_36 : decode cX5_skip 36 = .ok (.iadd, 1) := sorry
theorem dX5_skip_37 : decode cX5_skip 37 = .ok (.putfield 30, 3) := sorry
theorem dX5_skip_40 : decode cX5_skip 40 = .ok (.goto (-40), 3) := sorry
theorem dX5_skip_43 : decode cX5_skip 43 = .ok (.aload_n 0, 1) := sorry
theorem dX5_skip_44 : decode cX5_skip 44 = .ok (.getfield 30, 3) := sorry
theorem dX5_skip_47 : decode cX5_skip 47 = .ok (.ireturn, 1) := sorry
abbrev cX5_isIn : ByteArray := prog_6_method_2_code
def yX5_isIn : MethodName := ⟨RX5, "isIn", "(III)Z"⟩
def dkwX5_isIn_1 : List UInt8 := [180, 0, 3, 180, 0, 26, 27, 51, 29, 163, 0, 7, 4, 167, 0, 4, 3, 172]
abbrev dktX5_isIn_1 : List UInt8 := dkwX5_isIn_1 ++ []
def dkwX5_isIn_0 : List UInt8 := [27, 42, 180, 0, 22, 162, 0, 33, 42, 180, 0, 3, 180, 0, 26, 27, 51, 28, 161, 0, 20, 42]
abbrev dktX5_isIn_0 : List UInt8 := dkwX5_isIn_0 ++ dktX5_isIn_1
theorem dksX5_isIn_0 : cX5_isIn.data.toList.drop 0 = dktX5_isIn_0 := sorry
theorem dksX5_isIn_1 : cX5_isIn.data.toList.drop 22 = dktX5_isIn_1 := sorry
theorem dX5_isIn_0 : decode cX5_isIn 0 = .ok (.iload_n 1, 1) := sorry
theorem dX5_isIn_1 : decode cX5_isIn 1 = .ok (.aload_n 0, 1) := sorry
theorem dX5_isIn_2 : decode cX5_isIn 2 = .ok (.getfield 22, 3) := sorry
theorem dX5_isIn_5 : decode cX5_isIn 5 = .ok (.if_icmp .ge 33, 3) := sorry
theorem dX5_isIn_8 : decode cX5_isIn 8 = .ok (.aload_n 0, 1) := sorry
theorem dX5_isIn_9 : decode cX5_isIn 9 = .ok (.getfield 3, 3) := sorry
theorem dX5_isIn_12 : decode cX5_isIn 12 = .ok (.getfield 26, 3) := sorry
theorem dX5_isIn_15 : decode cX5_isIn 15 = .ok (.iload_n 1, 1) := sorry
theorem dX5_isIn_16 : decode cX5_isIn 16 = .ok (.baload, 1) := sorry
theorem dX5_isIn_17 : decode cX5_isIn 17 = .ok (.iload_n 2, 1) := sorry
theorem dX5_isIn_18 : decode cX5_isIn 18 = .ok (.if_icmp .lt 20, 3) := sorry
theorem dX5_isIn_21 : decode cX5_isIn 21 = .ok (.aload_n 0, 1) := sorry
theorem dX5_isIn_22 : decode cX5_isIn 22 = .ok (.getfield 3, 3) := sorry
theorem dX5_isIn_25 : decode cX5_isIn 25 = .ok (.getfield 26, 3) := sorry
theorem dX5_isIn_28 : decode cX5_isIn 28 = .ok (.iload_n 1, 1) := sorry
theorem dX5_isIn_29 : decode cX5_isIn 29 = .ok (.baload, 1) := sorry
theorem dX5_isIn_30 : decode cX5_isIn 30 = .ok (.iload_n 3, 1) := sorry
theorem dX5_isIn_31 : decode cX5_isIn 31 = .ok (.if_icmp .gt 7, 3) := sorry
theorem dX5_isIn_34 : decode cX5_isIn 34 = .ok (.iconst 1, 1) := sorry
theorem dX5_isIn_35 : decode cX5_isIn 35 = .ok (.goto 4, 3) := sorry
theorem dX5_isIn_38 : decode cX5_isIn 38 = .ok (.iconst 0, 1) := sorry
theorem dX5_isIn_39 : decode cX5_isIn 39 = .ok (.ireturn, 1) := sorry
abbrev cX5_line : ByteArray := prog_6_method_10_code
def yX5_line : MethodName := ⟨RX5, "line", "(I)V"⟩
def dkwX5_line_10 : List UInt8 := [4, 27, 183, 0, 39, 191, 177]
abbrev dktX5_line_10 : List UInt8 := dkwX5_line_10 ++ []
def dkwX5_line_9 : List UInt8 := [17, 1, 44, 182, 0, 81, 181, 0, 110, 167, 0, 21, 42, 27, 182, 0, 113, 167, 0, 13, 187, 0, 37, 89]
abbrev dktX5_line_9 : List UInt8 := dkwX5_line_9 ++ dktX5_line_10
def dkwX5_line_8 : List UInt8 := [167, 0, 54, 42, 180, 0, 18, 42, 3, 17, 1, 44, 182, 0, 81, 181, 0, 107, 42, 180, 0, 18, 42, 4]
abbrev dktX5_line_8 : List UInt8 := dkwX5_line_8 ++ dktX5_line_9
def dkwX5_line_7 : List UInt8 := [17, 0, 200, 182, 0, 81, 181, 0, 101, 42, 180, 0, 18, 42, 3, 16, 20, 182, 0, 81, 181, 0, 104]
abbrev dktX5_line_7 : List UInt8 := dkwX5_line_7 ++ dktX5_line_8
def dkwX5_line_6 : List UInt8 := [42, 180, 0, 18, 42, 16, 21, 17, 0, 200, 182, 0, 81, 181, 0, 98, 42, 180, 0, 18, 42, 3]
abbrev dktX5_line_6 : List UInt8 := dkwX5_line_6 ++ dktX5_line_7
def dkwX5_line_5 : List UInt8 := [170, 0, 0, 0, 0, 0, 0, 117, 0, 0, 0, 0, 0, 0, 0, 2, 0, 0, 0, 28, 0, 0, 0, 76, 0, 0, 0, 109]
abbrev dktX5_line_5 : List UInt8 := dkwX5_line_5 ++ dktX5_line_6
def dkwX5_line_4 : List UInt8 := [4, 54, 4, 167, 0, 15, 45, 18, 96, 182, 0, 60, 153, 0, 6, 5, 54, 4, 21, 4]
abbrev dktX5_line_4 : List UInt8 := dkwX5_line_4 ++ dktX5_line_5
def dkwX5_line_3 : List UInt8 := [45, 18, 92, 182, 0, 60, 153, 0, 36, 3, 54, 4, 167, 0, 30, 45, 18, 94, 182, 0, 60, 153, 0, 21]
abbrev dktX5_line_3 : List UInt8 := dkwX5_line_3 ++ dktX5_line_4
def dkwX5_line_2 : List UInt8 := [171, 0, 0, 0, 75, 0, 0, 0, 3, 0, 45, 208, 141, 0, 0, 0, 48, 5, 146, 215, 58, 0, 0, 0, 63, 6, 95, 164, 67, 0, 0, 0, 33]
abbrev dktX5_line_2 : List UInt8 := dkwX5_line_2 ++ dktX5_line_3
def dkwX5_line_1 : List UInt8 := [182, 0, 89]
abbrev dktX5_line_1 : List UInt8 := dkwX5_line_1 ++ dktX5_line_2
def dkwX5_line_0 : List UInt8 := [42, 182, 0, 57, 77, 42, 89, 180, 0, 30, 44, 182, 0, 66, 96, 181, 0, 30, 44, 78, 2, 54, 4, 45]
abbrev dktX5_line_0 : List UInt8 := dkwX5_line_0 ++ dktX5_line_1
theorem dksX5_line_0 : cX5_line.data.toList.drop 0 = dktX5_line_0 := sorry
theorem dksX5_line_1 : cX5_line.data.toList.drop 24 = dktX5_line_1 := sorry
theorem dksX5_line_2 : cX5_line.data.toList.drop 27 = dktX5_line_2 := sorry
theorem dksX5_line_3 : cX5_line.data.toList.drop 60 = dktX5_line_3 := sorry
theorem dksX5_line_4 : cX5_line.data.toList.drop 84 = dktX5_line_4 := sorry
theorem dksX5_line_5 : cX5_line.data.toList.drop 104 = dktX5_line_5 := sorry
theorem dksX5_line_6 : cX5_line.data.toList.drop 132 = dktX5_line_6 := sorry
theorem dksX5_line_7 : cX5_line.data.toList.drop 154 = dktX5_line_7 := sorry
theorem dksX5_line_8 : cX5_line.data.toList.drop 177 = dktX5_line_8 := sorry
theorem dksX5_line_9 : cX5_line.data.toList.drop 201 = dktX5_line_9 := sorry
theorem dksX5_line_10 : cX5_line.data.toList.drop 225 = dktX5_line_10 := sorry
theorem dX5_line_0 : decode cX5_line 0 = .ok (.aload_n 0, 1) := sorry
theorem dX5_line_1 : decode cX5_line 1 = .ok (.invokevirtual 57, 3) := sorry
theorem dX5_line_4 : decode cX5_line 4 = .ok (.astore_n 2, 1) := sorry
theorem dX5_line_5 : decode cX5_line 5 = .ok (.aload_n 0, 1) := sorry
theorem dX5_line_6 : decode cX5_line 6 = .ok (.dup, 1) := sorry
theorem dX5_line_7 : decode cX5_line 7 = .ok (.getfield 30, 3) := sorry
theorem dX5_line_10 : decode cX5_line 10 = .ok (.aload_n 2, 1) := sorry
theorem dX5_line_11 : decode cX5_line 11 = .ok (.invokevirtual 66, 3) := sorry
theorem dX5_line_14 : decode cX5_line 14 = .ok (.iadd, 1) := sorry
theorem dX5_line_15 : decode cX5_line 15 = .ok (.putfield 30, 3) := sorry
theorem dX5_line_18 : decode cX5_line 18 = .ok (.aload_n 2, 1) := sorry
theorem dX5_line_19 : decode cX5_line 19 = .ok (.astore_n 3, 1) := sorry
theorem dX5_line_20 : decode cX5_line 20 = .ok (.iconst (-1), 1) := sorry
theorem dX5_line_21 : decode cX5_line 21 = .ok (.istore 4, 2) := sorry
theorem dX5_line_23 : decode cX5_line 23 = .ok (.aload_n 3, 1) := sorry
theorem dX5_line_24 : decode cX5_line 24 = .ok (.invokevirtual 89, 3) := sorry
theorem dX5_line_27 : decode cX5_line 27 = .ok (.lookupswitch 75 #[(3002509, 48), (93509434, 63), (106931267, 33)], 33) := sorry
theorem dX5_line_60 : decode cX5_line 60 = .ok (.aload_n 3, 1) := sorry
theorem dX5_line_61 : decode cX5_line 61 = .ok (.ldc 92, 2) := sorry
theorem dX5_line_63 : decode cX5_line 63 = .ok (.invokevirtual 60, 3) := sorry
theorem dX5_line_66 : decode cX5_line 66 = .ok (.ifCond .eq 36, 3) := sorry
theorem dX5_line_69 : decode cX5_line 69 = .ok (.iconst 0, 1) := sorry
theorem dX5_line_70 : decode cX5_line 70 = .ok (.istore 4, 2) := sorry
theorem dX5_line_72 : decode cX5_line 72 = .ok (.goto 30, 3) := sorry
theorem dX5_line_75 : decode cX5_line 75 = .ok (.aload_n 3, 1) := sorry
theorem dX5_line_76 : decode cX5_line 76 = .ok (.ldc 94, 2) := sorry
theorem dX5_line_78 : decode cX5_line 78 = .ok (.invokevirtual 60, 3) := sorry
theorem dX5_line_81 : decode cX5_line 81 = .ok (.ifCond .eq 21, 3) := sorry
theorem dX5_line_84 : decode cX5_line 84 = .ok (.iconst 1, 1) := sorry
theorem dX5_line_85 : decode cX5_line 85 = .ok (.istore 4, 2) := sorry
theorem dX5_line_87 : decode cX5_line 87 = .ok (.goto 15, 3) := sorry
theorem dX5_line_90 : decode cX5_line 90 = .ok (.aload_n 3, 1) := sorry
theorem dX5_line_91 : decode cX5_line 91 = .ok (.ldc 96, 2) := sorry
theorem dX5_line_93 : decode cX5_line 93 = .ok (.invokevirtual 60, 3) := sorry
theorem dX5_line_96 : decode cX5_line 96 = .ok (.ifCond .eq 6, 3) := sorry
theorem dX5_line_99 : decode cX5_line 99 = .ok (.iconst 2, 1) := sorry
theorem dX5_line_100 : decode cX5_line 100 = .ok (.istore 4, 2) := sorry
theorem dX5_line_102 : decode cX5_line 102 = .ok (.iload 4, 2) := sorry
theorem dX5_line_104 : decode cX5_line 104 = .ok (.tableswitch 117 0 2 #[28, 76, 109], 28) := sorry
theorem dX5_line_132 : decode cX5_line 132 = .ok (.aload_n 0, 1) := sorry
theorem dX5_line_133 : decode cX5_line 133 = .ok (.getfield 18, 3) := sorry
theorem dX5_line_136 : decode cX5_line 136 = .ok (.aload_n 0, 1) := sorry
theorem dX5_line_137 : decode cX5_line 137 = .ok (.bipush 21, 2) := sorry
theorem dX5_line_139 : decode cX5_line 139 = .ok (.sipush 200, 3) := sorry
theorem dX5_line_142 : decode cX5_line 142 = .ok (.invokevirtual 81, 3) := sorry
theorem dX5_line_145 : decode cX5_line 145 = .ok (.putfield 98, 3) := sorry
theorem dX5_line_148 : decode cX5_line 148 = .ok (.aload_n 0, 1) := sorry
theorem dX5_line_149 : decode cX5_line 149 = .ok (.getfield 18, 3) := sorry
theorem dX5_line_152 : decode cX5_line 152 = .ok (.aload_n 0, 1) := sorry
theorem dX5_line_153 : decode cX5_line 153 = .ok (.iconst 0, 1) := sorry
theorem dX5_line_154 : decode cX5_line 154 = .ok (.sipush 200, 3) := sorry
theorem dX5_line_157 : decode cX5_line 157 = .ok (.invokevirtual 81, 3) := sorry
theorem dX5_line_160 : decode cX5_line 160 = .ok (.putfield 101, 3) := sorry
theorem dX5_line_163 : decode cX5_line 163 = .ok (.aload_n 0, 1) := sorry
theorem dX5_line_164 : decode cX5_line 164 = .ok (.getfield 18, 3) := sorry
theorem dX5_line_167 : decode cX5_line 167 = .ok (.aload_n 0, 1) := sorry
theorem dX5_line_168 : decode cX5_line 168 = .ok (.iconst 0, 1) := sorry
theorem dX5_line_169 : decode cX5_line 169 = .ok (.bipush 20, 2) := sorry
theorem dX5_line_171 : decode cX5_line 171 = .ok (.invokevirtual 81, 3) := sorry
theorem dX5_line_174 : decode cX5_line 174 = .ok (.putfield 104, 3) := sorry
theorem dX5_line_177 : decode cX5_line 177 = .ok (.goto 54, 3) := sorry
theorem dX5_line_180 : decode cX5_line 180 = .ok (.aload_n 0, 1) := sorry
theorem dX5_line_181 : decode cX5_line 181 = .ok (.getfield 18, 3) := sorry
theorem dX5_line_184 : decode cX5_line 184 = .ok (.aload_n 0, 1) := sorry
theorem dX5_line_185 : decode cX5_line 185 = .ok (.iconst 0, 1) := sorry
theorem dX5_line_186 : decode cX5_line 186 = .ok (.sipush 300, 3) := sorry
theorem dX5_line_189 : decode cX5_line 189 = .ok (.invokevirtual 81, 3) := sorry
theorem dX5_line_192 : decode cX5_line 192 = .ok (.putfield 107, 3) := sorry
theorem dX5_line_195 : decode cX5_line 195 = .ok (.aload_n 0, 1) := sorry
theorem dX5_line_196 : decode cX5_line 196 = .ok (.getfield 18, 3) := sorry
theorem dX5_line_199 : decode cX5_line 199 = .ok (.aload_n 0, 1) := sorry
theorem dX5_line_200 : decode cX5_line 200 = .ok (.iconst 1, 1) := sorry
theorem dX5_line_201 : decode cX5_line 201 = .ok (.sipush 300, 3) := sorry
theorem dX5_line_204 : decode cX5_line 204 = .ok (.invokevirtual 81, 3) := sorry
theorem dX5_line_207 : decode cX5_line 207 = .ok (.putfield 110, 3) := sorry
theorem dX5_line_210 : decode cX5_line 210 = .ok (.goto 21, 3) := sorry
theorem dX5_line_213 : decode cX5_line 213 = .ok (.aload_n 0, 1) := sorry
theorem dX5_line_214 : decode cX5_line 214 = .ok (.iload_n 1, 1) := sorry
theorem dX5_line_215 : decode cX5_line 215 = .ok (.invokevirtual 113, 3) := sorry
theorem dX5_line_218 : decode cX5_line 218 = .ok (.goto 13, 3) := sorry
theorem dX5_line_221 : decode cX5_line 221 = .ok (.new 37, 3) := sorry
theorem dX5_line_224 : decode cX5_line 224 = .ok (.dup, 1) := sorry
theorem dX5_line_225 : decode cX5_line 225 = .ok (.iconst 1, 1) := sorry
theorem dX5_line_226 : decode cX5_line 226 = .ok (.iload_n 1, 1) := sorry
theorem dX5_line_227 : decode cX5_line 227 = .ok (.invokespecial 39, 3) := sorry
theorem dX5_line_230 : decode cX5_line 230 = .ok (.athrow, 1) := sorry
theorem dX5_line_231 : decode cX5_line 231 = .ok (.return_, 1) := sorry
abbrev cX5_word : ByteArray := prog_6_method_5_code
def yX5_word : MethodName := ⟨RX5, "word", "()Ljava/lang/String;"⟩
def dkwX5_word_2 : List UInt8 := [44, 182, 0, 53, 176]
abbrev dktX5_word_2 : List UInt8 := dkwX5_word_2 ++ []
def dkwX5_word_1 : List UInt8 := [153, 0, 24, 44, 42, 180, 0, 3, 180, 0, 26, 29, 51, 146, 182, 0, 49, 87, 132, 3, 1, 167, 255, 226]
abbrev dktX5_word_1 : List UInt8 := dkwX5_word_1 ++ dktX5_word_2
def dkwX5_word_0 : List UInt8 := [42, 182, 0, 42, 60, 187, 0, 46, 89, 183, 0, 48, 77, 27, 62, 42, 29, 16, 97, 16, 122, 182, 0, 33]
abbrev dktX5_word_0 : List UInt8 := dkwX5_word_0 ++ dktX5_word_1
theorem dksX5_word_0 : cX5_word.data.toList.drop 0 = dktX5_word_0 := sorry
theorem dksX5_word_1 : cX5_word.data.toList.drop 24 = dktX5_word_1 := sorry
theorem dksX5_word_2 : cX5_word.data.toList.drop 48 = dktX5_word_2 := sorry
theorem dX5_word_0 : decode cX5_word 0 = .ok (.aload_n 0, 1) := sorry
theorem dX5_word_1 : decode cX5_word 1 = .ok (.invokevirtual 42, 3) := sorry
theorem dX5_word_4 : decode cX5_word 4 = .ok (.istore_n 1, 1) := sorry
theorem dX5_word_5 : decode cX5_word 5 = .ok (.new 46, 3) := sorry
theorem dX5_word_8 : decode cX5_word 8 = .ok (.dup, 1) := sorry
theorem dX5_word_9 : decode cX5_word 9 = .ok (.invokespecial 48, 3) := sorry
theorem dX5_word_12 : decode cX5_word 12 = .ok (.astore_n 2, 1) := sorry
theorem dX5_word_13 : decode cX5_word 13 = .ok (.iload_n 1, 1) := sorry
theorem dX5_word_14 : decode cX5_word 14 = .ok (.istore_n 3, 1) := sorry
theorem dX5_word_15 : decode cX5_word 15 = .ok (.aload_n 0, 1) := sorry
theorem dX5_word_16 : decode cX5_word 16 = .ok (.iload_n 3, 1) := sorry
theorem dX5_word_17 : decode cX5_word 17 = .ok (.bipush 97, 2) := sorry
theorem dX5_word_19 : decode cX5_word 19 = .ok (.bipush 122, 2) := sorry
theorem dX5_word_21 : decode cX5_word 21 = .ok (.invokevirtual 33, 3) := sorry
theorem dX5_word_24 : decode cX5_word 24 = .ok (.ifCond .eq 24, 3) := sorry
theorem dX5_word_27 : decode cX5_word 27 = .ok (.aload_n 2, 1) := sorry
theorem dX5_word_28 : decode cX5_word 28 = .ok (.aload_n 0, 1) := sorry
theorem dX5_word_29 : decode cX5_word 29 = .ok (.getfield 3, 3) := sorry
theorem dX5_word_32 : decode cX5_word 32 = .ok (.getfield 26, 3) := sorry
theorem dX5_word_35 : decode cX5_word 35 = .ok (.iload_n 3, 1) := sorry
theorem dX5_word_36 : decode cX5_word 36 = .ok (.baload, 1) := sorry
theorem dX5_word_37 : decode cX5_word 37 = .ok (.i2c, 1) := sorry
theorem dX5_word_38 : decode cX5_word 38 = .ok (.invokevirtual 49, 3) := sorry
theorem dX5_word_41 : decode cX5_word 41 = .ok (.pop, 1) := sorry
theorem dX5_word_42 : decode cX5_word 42 = .ok (.iinc 3 1, 3) := sorry
theorem dX5_word_45 : decode cX5_word 45 = .ok (.goto (-30), 3) := sorry
theorem dX5_word_48 : decode cX5_word 48 = .ok (.aload_n 2, 1) := sorry
theorem dX5_word_49 : decode cX5_word 49 = .ok (.invokevirtual 53, 3) := sorry
theorem dX5_word_52 : decode cX5_word 52 = .ok (.areturn, 1) := sorry
abbrev cX5_number : ByteArray := prog_6_method_7_code
def yX5_number : MethodName := ⟨RX5, "number", "(II)I"⟩
def dkwX5_number_5 : List UInt8 := [4, 167, 0, 4, 3, 5, 29, 182, 0, 69, 21, 4, 172]
abbrev dktX5_number_5 : List UInt8 := dkwX5_number_5 ++ []
def dkwX5_number_4 : List UInt8 := [42, 180, 0, 30, 29, 100, 16, 6, 163, 0, 20, 21, 4, 133, 27, 133, 28, 133, 184, 0, 73, 153, 0, 7]
abbrev dktX5_number_4 : List UInt8 := dkwX5_number_4 ++ dktX5_number_5
def dkwX5_number_3 : List UInt8 := [16, 48, 100, 167, 0, 5, 21, 4, 54, 4, 42, 89, 180, 0, 30, 4, 96, 181, 0, 30, 167, 255, 192, 42]
abbrev dktX5_number_3 : List UInt8 := dkwX5_number_3 ++ dktX5_number_4
def dkwX5_number_2 : List UInt8 := [16, 6, 162, 0, 27, 16, 10, 21, 4, 104, 42, 180, 0, 3, 180, 0, 26, 42, 180, 0, 30, 51, 96]
abbrev dktX5_number_2 : List UInt8 := dkwX5_number_2 ++ dktX5_number_3
def dkwX5_number_1 : List UInt8 := [54, 4, 42, 42, 180, 0, 30, 16, 48, 16, 57, 182, 0, 33, 153, 0, 55, 42, 180, 0, 30, 29, 100]
abbrev dktX5_number_1 : List UInt8 := dkwX5_number_1 ++ dktX5_number_2
def dkwX5_number_0 : List UInt8 := [42, 182, 0, 42, 62, 42, 42, 42, 180, 0, 30, 16, 48, 16, 57, 182, 0, 33, 4, 29, 182, 0, 69, 3]
abbrev dktX5_number_0 : List UInt8 := dkwX5_number_0 ++ dktX5_number_1
theorem dksX5_number_0 : cX5_number.data.toList.drop 0 = dktX5_number_0 := sorry
theorem dksX5_number_1 : cX5_number.data.toList.drop 24 = dktX5_number_1 := sorry
theorem dksX5_number_2 : cX5_number.data.toList.drop 47 = dktX5_number_2 := sorry
theorem dksX5_number_3 : cX5_number.data.toList.drop 70 = dktX5_number_3 := sorry
theorem dksX5_number_4 : cX5_number.data.toList.drop 94 = dktX5_number_4 := sorry
theorem dksX5_number_5 : cX5_number.data.toList.drop 118 = dktX5_number_5 := sorry
theorem dX5_number_0 : decode cX5_number 0 = .ok (.aload_n 0, 1) := sorry
theorem dX5_number_1 : decode cX5_number 1 = .ok (.invokevirtual 42, 3) := sorry
theorem dX5_number_4 : decode cX5_number 4 = .ok (.istore_n 3, 1) := sorry
theorem dX5_number_5 : decode cX5_number 5 = .ok (.aload_n 0, 1) := sorry
theorem dX5_number_6 : decode cX5_number 6 = .ok (.aload_n 0, 1) := sorry
theorem dX5_number_7 : decode cX5_number 7 = .ok (.aload_n 0, 1) := sorry
theorem dX5_number_8 : decode cX5_number 8 = .ok (.getfield 30, 3) := sorry
theorem dX5_number_11 : decode cX5_number 11 = .ok (.bipush 48, 2) := sorry
theorem dX5_number_13 : decode cX5_number 13 = .ok (.bipush 57, 2) := sorry
theorem dX5_number_15 : decode cX5_number 15 = .ok (.invokevirtual 33, 3) := sorry
theorem dX5_number_18 : decode cX5_number 18 = .ok (.iconst 1, 1) := sorry
theorem dX5_number_19 : decode cX5_number 19 = .ok (.iload_n 3, 1) := sorry
theorem dX5_number_20 : decode cX5_number 20 = .ok (.invokevirtual 69, 3) := sorry
theorem dX5_number_23 : decode cX5_number 23 = .ok (.iconst 0, 1) := sorry
theorem dX5_number_24 : decode cX5_number 24 = .ok (.istore 4, 2) := sorry
theorem dX5_number_26 : decode cX5_number 26 = .ok (.aload_n 0, 1) := sorry
theorem dX5_number_27 : decode cX5_number 27 = .ok (.aload_n 0, 1) := sorry
theorem dX5_number_28 : decode cX5_number 28 = .ok (.getfield 30, 3) := sorry
theorem dX5_number_31 : decode cX5_number 31 = .ok (.bipush 48, 2) := sorry
theorem dX5_number_33 : decode cX5_number 33 = .ok (.bipush 57, 2) := sorry
theorem dX5_number_35 : decode cX5_number 35 = .ok (.invokevirtual 33, 3) := sorry
theorem dX5_number_38 : decode cX5_number 38 = .ok (.ifCond .eq 55, 3) := sorry
theorem dX5_number_41 : decode cX5_number 41 = .ok (.aload_n 0, 1) := sorry
theorem dX5_number_42 : decode cX5_number 42 = .ok (.getfield 30, 3) := sorry
theorem dX5_number_45 : decode cX5_number 45 = .ok (.iload_n 3, 1) := sorry
theorem dX5_number_46 : decode cX5_number 46 = .ok (.isub, 1) := sorry
theorem dX5_number_47 : decode cX5_number 47 = .ok (.bipush 6, 2) := sorry
theorem dX5_number_49 : decode cX5_number 49 = .ok (.if_icmp .ge 27, 3) := sorry
theorem dX5_number_52 : decode cX5_number 52 = .ok (.bipush 10, 2) := sorry
theorem dX5_number_54 : decode cX5_number 54 = .ok (.iload 4, 2) := sorry
theorem dX5_number_56 : decode cX5_number 56 = .ok (.imul, 1) := sorry
theorem dX5_number_57 : decode cX5_number 57 = .ok (.aload_n 0, 1) := sorry
theorem dX5_number_58 : decode cX5_number 58 = .ok (.getfield 3, 3) := sorry
theorem dX5_number_61 : decode cX5_number 61 = .ok (.getfield 26, 3) := sorry
theorem dX5_number_64 : decode cX5_number 64 = .ok (.aload_n 0, 1) := sorry
theorem dX5_number_65 : decode cX5_number 65 = .ok (.getfield 30, 3) := sorry
theorem dX5_number_68 : decode cX5_number 68 = .ok (.baload, 1) := sorry
theorem dX5_number_69 : decode cX5_number 69 = .ok (.iadd, 1) := sorry
theorem dX5_number_70 : decode cX5_number 70 = .ok (.bipush 48, 2) := sorry
theorem dX5_number_72 : decode cX5_number 72 = .ok (.isub, 1) := sorry
theorem dX5_number_73 : decode cX5_number 73 = .ok (.goto 5, 3) := sorry
theorem dX5_number_76 : decode cX5_number 76 = .ok (.iload 4, 2) := sorry
theorem dX5_number_78 : decode cX5_number 78 = .ok (.istore 4, 2) := sorry
theorem dX5_number_80 : decode cX5_number 80 = .ok (.aload_n 0, 1) := sorry
theorem dX5_number_81 : decode cX5_number 81 = .ok (.dup, 1) := sorry
theorem dX5_number_82 : decode cX5_number 82 = .ok (.getfield 30, 3) := sorry
theorem dX5_number_85 : decode cX5_number 85 = .ok (.iconst 1, 1) := sorry
theorem dX5_number_86 : decode cX5_number 86 = .ok (.iadd, 1) := sorry
theorem dX5_number_87 : decode cX5_number 87 = .ok (.putfield 30, 3) := sorry
theorem dX5_number_90 : decode cX5_number 90 = .ok (.goto (-64), 3) := sorry
theorem dX5_number_93 : decode cX5_number 93 = .ok (.aload_n 0, 1) := sorry
theorem dX5_number_94 : decode cX5_number 94 = .ok (.aload_n 0, 1) := sorry
theorem dX5_number_95 : decode cX5_number 95 = .ok (.getfield 30, 3) := sorry
theorem dX5_number_98 : decode cX5_number 98 = .ok (.iload_n 3, 1) := sorry
theorem dX5_number_99 : decode cX5_number 99 = .ok (.isub, 1) := sorry
theorem dX5_number_100 : decode cX5_number 100 = .ok (.bipush 6, 2) := sorry
theorem dX5_number_102 : decode cX5_number 102 = .ok (.if_icmp .gt 20, 3) := sorry
theorem dX5_number_105 : decode cX5_number 105 = .ok (.iload 4, 2) := sorry
theorem dX5_number_107 : decode cX5_number 107 = .ok (.i2l, 1) := sorry
theorem dX5_number_108 : decode cX5_number 108 = .ok (.iload_n 1, 1) := sorry
theorem dX5_number_109 : decode cX5_number 109 = .ok (.i2l, 1) := sorry
theorem dX5_number_110 : decode cX5_number 110 = .ok (.iload_n 2, 1) := sorry
theorem dX5_number_111 : decode cX5_number 111 = .ok (.i2l, 1) := sorry
theorem dX5_number_112 : decode cX5_number 112 = .ok (.invokestatic 73, 3) := sorry
theorem dX5_number_115 : decode cX5_number 115 = .ok (.ifCond .eq 7, 3) := sorry
theorem dX5_number_118 : decode cX5_number 118 = .ok (.iconst 1, 1) := sorry
theorem dX5_number_119 : decode cX5_number 119 = .ok (.goto 4, 3) := sorry
theorem dX5_number_122 : decode cX5_number 122 = .ok (.iconst 0, 1) := sorry
theorem dX5_number_123 : decode cX5_number 123 = .ok (.iconst 2, 1) := sorry
theorem dX5_number_124 : decode cX5_number 124 = .ok (.iload_n 3, 1) := sorry
theorem dX5_number_125 : decode cX5_number 125 = .ok (.invokevirtual 69, 3) := sorry
theorem dX5_number_128 : decode cX5_number 128 = .ok (.iload 4, 2) := sorry
theorem dX5_number_130 : decode cX5_number 130 = .ok (.ireturn, 1) := sorry
abbrev cX5_check : ByteArray := prog_6_method_4_code
def yX5_check : MethodName := ⟨RX5, "check", "(ZII)V"⟩
def dkwX5_check_0 : List UInt8 := [27, 154, 0, 13, 187, 0, 37, 89, 28, 29, 183, 0, 39, 191, 177]
abbrev dktX5_check_0 : List UInt8 := dkwX5_check_0 ++ []
theorem dksX5_check_0 : cX5_check.data.toList.drop 0 = dktX5_check_0 := sorry
theorem dX5_check_0 : decode cX5_check 0 = .ok (.iload_n 1, 1) := sorry
theorem dX5_check_1 : decode cX5_check 1 = .ok (.ifCond .ne 13, 3) := sorry
theorem dX5_check_4 : decode cX5_check 4 = .ok (.new 37, 3) := sorry
theorem dX5_check_7 : decode cX5_check 7 = .ok (.dup, 1) := sorry
theorem dX5_check_8 : decode cX5_check 8 = .ok (.iload_n 2, 1) := sorry
theorem dX5_check_9 : decode cX5_check 9 = .ok (.iload_n 3, 1) := sorry
theorem dX5_check_10 : decode cX5_check 10 = .ok (.invokespecial 39, 3) := sorry
theorem dX5_check_13 : decode cX5_check 13 = .ok (.athrow, 1) := sorry
theorem dX5_check_14 : decode cX5_check 14 = .ok (.return_, 1) := sorry
abbrev cX5_batch : ByteArray := prog_6_method_11_code
def yX5_batch : MethodName := ⟨RX5, "batch", "(I)V"⟩
def dkwX5_batch_11 : List UInt8 := [180, 0, 18, 180, 0, 115, 25, 6, 182, 0, 165, 87, 177]
abbrev dktX5_batch_11 : List UInt8 := dkwX5_batch_11 ++ []
def dkwX5_batch_10 : List UInt8 := [18, 164, 182, 0, 77, 153, 0, 7, 4, 167, 0, 4, 3, 4, 42, 182, 0, 42, 182, 0, 69, 42]
abbrev dktX5_batch_10 : List UInt8 := dkwX5_batch_10 ++ dktX5_batch_11
def dkwX5_batch_9 : List UInt8 := [181, 0, 155, 25, 6, 42, 18, 159, 182, 0, 77, 181, 0, 161, 42, 25, 6, 180, 0, 161, 154, 0, 12, 42]
abbrev dktX5_batch_9 : List UInt8 := dkwX5_batch_9 ++ dktX5_batch_10
def dkwX5_batch_8 : List UInt8 := [42, 18, 149, 4, 16, 6, 182, 0, 141, 79, 183, 0, 151, 58, 6, 25, 6, 42, 18, 154, 182, 0, 77]
abbrev dktX5_batch_8 : List UInt8 := dkwX5_batch_8 ++ dktX5_batch_9
def dkwX5_batch_7 : List UInt8 := [187, 0, 129, 89, 44, 7, 188, 10, 89, 3, 29, 79, 89, 4, 21, 4, 79, 89, 5, 21, 5, 79, 89, 6]
abbrev dktX5_batch_7 : List UInt8 := dkwX5_batch_7 ++ dktX5_batch_8
def dkwX5_batch_6 : List UInt8 := [18, 145, 4, 16, 40, 182, 0, 141, 54, 4, 42, 18, 147, 3, 17, 3, 231, 182, 0, 141, 54, 5]
abbrev dktX5_batch_6 : List UInt8 := dkwX5_batch_6 ++ dktX5_batch_7
def dkwX5_batch_5 : List UInt8 := [182, 0, 66, 96, 181, 0, 30, 42, 18, 135, 3, 178, 0, 137, 16, 6, 46, 4, 100, 182, 0, 141, 62, 42]
abbrev dktX5_batch_5 : List UInt8 := dkwX5_batch_5 ++ dktX5_batch_6
def dkwX5_batch_4 : List UInt8 := [167, 0, 4, 3, 6, 42, 182, 0, 42, 182, 0, 69, 132, 3, 1, 167, 255, 201, 42, 89, 180, 0, 30, 44]
abbrev dktX5_batch_4 : List UInt8 := dkwX5_batch_4 ++ dktX5_batch_5
def dkwX5_batch_3 : List UInt8 := [180, 0, 18, 180, 0, 115, 29, 182, 0, 125, 192, 0, 129, 180, 0, 131, 44, 182, 0, 60, 154, 0, 7, 4]
abbrev dktX5_batch_3 : List UInt8 := dkwX5_batch_3 ++ dktX5_batch_4
def dkwX5_batch_2 : List UInt8 := [182, 0, 42, 182, 0, 69, 3, 62, 29, 42, 180, 0, 18, 180, 0, 115, 182, 0, 119, 162, 0, 47, 42, 42]
abbrev dktX5_batch_2 : List UInt8 := dkwX5_batch_2 ++ dktX5_batch_3
def dkwX5_batch_1 : List UInt8 := [182, 0, 69, 42, 182, 0, 57, 77, 42, 44, 182, 0, 66, 133, 10, 20, 0, 123, 184, 0, 73, 4, 42]
abbrev dktX5_batch_1 : List UInt8 := dkwX5_batch_1 ++ dktX5_batch_2
def dkwX5_batch_0 : List UInt8 := [42, 42, 180, 0, 18, 180, 0, 115, 182, 0, 119, 16, 6, 162, 0, 7, 4, 167, 0, 4, 3, 7, 27]
abbrev dktX5_batch_0 : List UInt8 := dkwX5_batch_0 ++ dktX5_batch_1
theorem dksX5_batch_0 : cX5_batch.data.toList.drop 0 = dktX5_batch_0 := sorry
theorem dksX5_batch_1 : cX5_batch.data.toList.drop 23 = dktX5_batch_1 := sorry
theorem dksX5_batch_2 : cX5_batch.data.toList.drop 46 = dktX5_batch_2 := sorry
theorem dksX5_batch_3 : cX5_batch.data.toList.drop 70 = dktX5_batch_3 := sorry
theorem dksX5_batch_4 : cX5_batch.data.toList.drop 94 = dktX5_batch_4 := sorry
theorem dksX5_batch_5 : cX5_batch.data.toList.drop 118 = dktX5_batch_5 := sorry
theorem dksX5_batch_6 : cX5_batch.data.toList.drop 142 = dktX5_batch_6 := sorry
theorem dksX5_batch_7 : cX5_batch.data.toList.drop 164 = dktX5_batch_7 := sorry
theorem dksX5_batch_8 : cX5_batch.data.toList.drop 188 = dktX5_batch_8 := sorry
theorem dksX5_batch_9 : cX5_batch.data.toList.drop 211 = dktX5_batch_9 := sorry
theorem dksX5_batch_10 : cX5_batch.data.toList.drop 235 = dktX5_batch_10 := sorry
theorem dksX5_batch_11 : cX5_batch.data.toList.drop 257 = dktX5_batch_11 := sorry
theorem dX5_batch_0 : decode cX5_batch 0 = .ok (.aload_n 0, 1) := sorry
theorem dX5_batch_1 : decode cX5_batch 1 = .ok (.aload_n 0, 1) := sorry
theorem dX5_batch_2 : decode cX5_batch 2 = .ok (.getfield 18, 3) := sorry
theorem dX5_batch_5 : decode cX5_batch 5 = .ok (.getfield 115, 3) := sorry
theorem dX5_batch_8 : decode cX5_batch 8 = .ok (.invokevirtual 119, 3) := sorry
theorem dX5_batch_11 : decode cX5_batch 11 = .ok (.bipush 6, 2) := sorry
theorem dX5_batch_13 : decode cX5_batch 13 = .ok (.if_icmp .ge 7, 3) := sorry
theorem dX5_batch_16 : decode cX5_batch 16 = .ok (.iconst 1, 1) := sorry
theorem dX5_batch_17 : decode cX5_batch 17 = .ok (.goto 4, 3) := sorry
theorem dX5_batch_20 : decode cX5_batch 20 = .ok (.iconst 0, 1) := sorry
theorem dX5_batch_21 : decode cX5_batch 21 = .ok (.iconst 4, 1) := sorry
theorem dX5_batch_22 : decode cX5_batch 22 = .ok (.iload_n 1, 1) := sorry
theorem dX5_batch_23 : decode cX5_batch 23 = .ok (.invokevirtual 69, 3) := sorry
theorem dX5_batch_26 : decode cX5_batch 26 = .ok (.aload_n 0, 1) := sorry
theorem dX5_batch_27 : decode cX5_batch 27 = .ok (.invokevirtual 57, 3) := sorry
theorem dX5_batch_30 : decode cX5_batch 30 = .ok (.astore_n 2, 1) := sorry
theorem dX5_batch_31 : decode cX5_batch 31 = .ok (.aload_n 0, 1) := sorry
theorem dX5_batch_32 : decode cX5_batch 32 = .ok (.aload_n 2, 1) := sorry
theorem dX5_batch_33 : decode cX5_batch 33 = .ok (.invokevirtual 66, 3) := sorry
theorem dX5_batch_36 : decode cX5_batch 36 = .ok (.i2l, 1) := sorry
theorem dX5_batch_37 : decode cX5_batch 37 = .ok (.lconst 1, 1) := sorry
theorem dX5_batch_38 : decode cX5_batch 38 = .ok (.ldc2_w 123, 3) := sorry
theorem dX5_batch_41 : decode cX5_batch 41 = .ok (.invokestatic 73, 3) := sorry
theorem dX5_batch_44 : decode cX5_batch 44 = .ok (.iconst 1, 1) := sorry
theorem dX5_batch_45 : decode cX5_batch 45 = .ok (.aload_n 0, 1) := sorry
theorem dX5_batch_46 : decode cX5_batch 46 = .ok (.invokevirtual 42, 3) := sorry
theorem dX5_batch_49 : decode cX5_batch 49 = .ok (.invokevirtual 69, 3) := sorry
theorem dX5_batch_52 : decode cX5_batch 52 = .ok (.iconst 0, 1) := sorry
theorem dX5_batch_53 : decode cX5_batch 53 = .ok (.istore_n 3, 1) := sorry
theorem dX5_batch_54 : decode cX5_batch 54 = .ok (.iload_n 3, 1) := sorry
theorem dX5_batch_55 : decode cX5_batch 55 = .ok (.aload_n 0, 1) := sorry
theorem dX5_batch_56 : decode cX5_batch 56 = .ok (.getfield 18, 3) := sorry
theorem dX5_batch_59 : decode cX5_batch 59 = .ok (.getfield 115, 3) := sorry
theorem dX5_batch_62 : decode cX5_batch 62 = .ok (.invokevirtual 119, 3) := sorry
theorem dX5_batch_65 : decode cX5_batch 65 = .ok (.if_icmp .ge 47, 3) := sorry
theorem dX5_batch_68 : decode cX5_batch 68 = .ok (.aload_n 0, 1) := sorry
theorem dX5_batch_69 : decode cX5_batch 69 = .ok (.aload_n 0, 1) := sorry
theorem dX5_batch_70 : decode cX5_batch 70 = .ok (.getfield 18, 3) := sorry
theorem dX5_batch_73 : decode cX5_batch 73 = .ok (.getfield 115, 3) := sorry
theorem dX5_batch_76 : decode cX5_batch 76 = .ok (.iload_n 3, 1) := sorry
theorem dX5_batch_77 : decode cX5_batch 77 = .ok (.invokevirtual 125, 3) := sorry
theorem dX5_batch_80 : decode cX5_batch 80 = .ok (.checkcast 129, 3) := sorry
theorem dX5_batch_83 : decode cX5_batch 83 = .ok (.getfield 131, 3) := sorry
theorem dX5_batch_86 : decode cX5_batch 86 = .ok (.aload_n 2, 1) := sorry
theorem dX5_batch_87 : decode cX5_batch 87 = .ok (.invokevirtual 60, 3) := sorry
theorem dX5_batch_90 : decode cX5_batch 90 = .ok (.ifCond .ne 7, 3) := sorry
theorem dX5_batch_93 : decode cX5_batch 93 = .ok (.iconst 1, 1) := sorry
theorem dX5_batch_94 : decode cX5_batch 94 = .ok (.goto 4, 3) := sorry
theorem dX5_batch_97 : decode cX5_batch 97 = .ok (.iconst 0, 1) := sorry
theorem dX5_batch_98 : decode cX5_batch 98 = .ok (.iconst 3, 1) := sorry
theorem dX5_batch_99 : decode cX5_batch 99 = .ok (.aload_n 0, 1) := sorry
theorem dX5_batch_100 : decode cX5_batch 100 = .ok (.invokevirtual 42, 3) := sorry
theorem dX5_batch_103 : decode cX5_batch 103 = .ok (.invokevirtual 69, 3) := sorry
theorem dX5_batch_106 : decode cX5_batch 106 = .ok (.iinc 3 1, 3) := sorry
theorem dX5_batch_109 : decode cX5_batch 109 = .ok (.goto (-55), 3) := sorry
theorem dX5_batch_112 : decode cX5_batch 112 = .ok (.aload_n 0, 1) := sorry
theorem dX5_batch_113 : decode cX5_batch 113 = .ok (.dup, 1) := sorry
theorem dX5_batch_114 : decode cX5_batch 114 = .ok (.getfield 30, 3) := sorry
theorem dX5_batch_117 : decode cX5_batch 117 = .ok (.aload_n 2, 1) := sorry
theorem dX5_batch_118 : decode cX5_batch 118 = .ok (.invokevirtual 66, 3) := sorry
theorem dX5_batch_121 : decode cX5_batch 121 = .ok (.iadd, 1) := sorry
theorem dX5_batch_122 : decode cX5_batch 122 = .ok (.putfield 30, 3) := sorry
theorem dX5_batch_125 : decode cX5_batch 125 = .ok (.aload_n 0, 1) := sorry
theorem dX5_batch_126 : decode cX5_batch 126 = .ok (.ldc 135, 2) := sorry
theorem dX5_batch_128 : decode cX5_batch 128 = .ok (.iconst 0, 1) := sorry
theorem dX5_batch_129 : decode cX5_batch 129 = .ok (.getstatic 137, 3) := sorry
theorem dX5_batch_132 : decode cX5_batch 132 = .ok (.bipush 6, 2) := sorry
theorem dX5_batch_134 : decode cX5_batch 134 = .ok (.iaload, 1) := sorry
theorem dX5_batch_135 : decode cX5_batch 135 = .ok (.iconst 1, 1) := sorry
theorem dX5_batch_136 : decode cX5_batch 136 = .ok (.isub, 1) := sorry
theorem dX5_batch_137 : decode cX5_batch 137 = .ok (.invokevirtual 141, 3) := sorry
theorem dX5_batch_140 : decode cX5_batch 140 = .ok (.istore_n 3, 1) := sorry
theorem dX5_batch_141 : decode cX5_batch 141 = .ok (.aload_n 0, 1) := sorry
theorem dX5_batch_142 : decode cX5_batch 142 = .ok (.ldc 145, 2) := sorry
theorem dX5_batch_144 : decode cX5_batch 144 = .ok (.iconst 1, 1) := sorry
theorem dX5_batch_145 : decode cX5_batch 145 = .ok (.bipush 40, 2) := sorry
theorem dX5_batch_147 : decode cX5_batch 147 = .ok (.invokevirtual 141, 3) := sorry
theorem dX5_batch_150 : decode cX5_batch 150 = .ok (.istore 4, 2) := sorry
theorem dX5_batch_152 : decode cX5_batch 152 = .ok (.aload_n 0, 1) := sorry
theorem dX5_batch_153 : decode cX5_batch 153 = .ok (.ldc 147, 2) := sorry
theorem dX5_batch_155 : decode cX5_batch 155 = .ok (.iconst 0, 1) := sorry
theorem dX5_batch_156 : decode cX5_batch 156 = .ok (.sipush 999, 3) := sorry
theorem dX5_batch_159 : decode cX5_batch 159 = .ok (.invokevirtual 141, 3) := sorry
theorem dX5_batch_162 : decode cX5_batch 162 = .ok (.istore 5, 2) := sorry
theorem dX5_batch_164 : decode cX5_batch 164 = .ok (.new 129, 3) := sorry
theorem dX5_batch_167 : decode cX5_batch 167 = .ok (.dup, 1) := sorry
theorem dX5_batch_168 : decode cX5_batch 168 = .ok (.aload_n 2, 1) := sorry
theorem dX5_batch_169 : decode cX5_batch 169 = .ok (.iconst 4, 1) := sorry
theorem dX5_batch_170 : decode cX5_batch 170 = .ok (.newarray .int, 2) := sorry
theorem dX5_batch_172 : decode cX5_batch 172 = .ok (.dup, 1) := sorry
theorem dX5_batch_173 : decode cX5_batch 173 = .ok (.iconst 0, 1) := sorry
theorem dX5_batch_174 : decode cX5_batch 174 = .ok (.iload_n 3, 1) := sorry
theorem dX5_batch_175 : decode cX5_batch 175 = .ok (.iastore, 1) := sorry
theorem dX5_batch_176 : decode cX5_batch 176 = .ok (.dup, 1) := sorry
theorem dX5_batch_177 : decode cX5_batch 177 = .ok (.iconst 1, 1) := sorry
theorem dX5_batch_178 : decode cX5_batch 178 = .ok (.iload 4, 2) := sorry
theorem dX5_batch_180 : decode cX5_batch 180 = .ok (.iastore, 1) := sorry
theorem dX5_batch_181 : decode cX5_batch 181 = .ok (.dup, 1) := sorry
theorem dX5_batch_182 : decode cX5_batch 182 = .ok (.iconst 2, 1) := sorry
theorem dX5_batch_183 : decode cX5_batch 183 = .ok (.iload 5, 2) := sorry
theorem dX5_batch_185 : decode cX5_batch 185 = .ok (.iastore, 1) := sorry
theorem dX5_batch_186 : decode cX5_batch 186 = .ok (.dup, 1) := sorry
theorem dX5_batch_187 : decode cX5_batch 187 = .ok (.iconst 3, 1) := sorry
theorem dX5_batch_188 : decode cX5_batch 188 = .ok (.aload_n 0, 1) := sorry
theorem dX5_batch_189 : decode cX5_batch 189 = .ok (.ldc 149, 2) := sorry
theorem dX5_batch_191 : decode cX5_batch 191 = .ok (.iconst 1, 1) := sorry
theorem dX5_batch_192 : decode cX5_batch 192 = .ok (.bipush 6, 2) := sorry
theorem dX5_batch_194 : decode cX5_batch 194 = .ok (.invokevirtual 141, 3) := sorry
theorem dX5_batch_197 : decode cX5_batch 197 = .ok (.iastore, 1) := sorry
theorem dX5_batch_198 : decode cX5_batch 198 = .ok (.invokespecial 151, 3) := sorry
theorem dX5_batch_201 : decode cX5_batch 201 = .ok (.astore 6, 2) := sorry
theorem dX5_batch_203 : decode cX5_batch 203 = .ok (.aload 6, 2) := sorry
theorem dX5_batch_205 : decode cX5_batch 205 = .ok (.aload_n 0, 1) := sorry
theorem dX5_batch_206 : decode cX5_batch 206 = .ok (.ldc 154, 2) := sorry
theorem dX5_batch_208 : decode cX5_batch 208 = .ok (.invokevirtual 77, 3) := sorry
theorem dX5_batch_211 : decode cX5_batch 211 = .ok (.putfield 155, 3) := sorry
theorem dX5_batch_214 : decode cX5_batch 214 = .ok (.aload 6, 2) := sorry
theorem dX5_batch_216 : decode cX5_batch 216 = .ok (.aload_n 0, 1) := sorry
theorem dX5_batch_217 : decode cX5_batch 217 = .ok (.ldc 159, 2) := sorry
theorem dX5_batch_219 : decode cX5_batch 219 = .ok (.invokevirtual 77, 3) := sorry
theorem dX5_batch_222 : decode cX5_batch 222 = .ok (.putfield 161, 3) := sorry
theorem dX5_batch_225 : decode cX5_batch 225 = .ok (.aload_n 0, 1) := sorry
theorem dX5_batch_226 : decode cX5_batch 226 = .ok (.aload 6, 2) := sorry
theorem dX5_batch_228 : decode cX5_batch 228 = .ok (.getfield 161, 3) := sorry
theorem dX5_batch_231 : decode cX5_batch 231 = .ok (.ifCond .ne 12, 3) := sorry
theorem dX5_batch_234 : decode cX5_batch 234 = .ok (.aload_n 0, 1) := sorry
theorem dX5_batch_235 : decode cX5_batch 235 = .ok (.ldc 164, 2) := sorry
theorem dX5_batch_237 : decode cX5_batch 237 = .ok (.invokevirtual 77, 3) := sorry
theorem dX5_batch_240 : decode cX5_batch 240 = .ok (.ifCond .eq 7, 3) := sorry
theorem dX5_batch_243 : decode cX5_batch 243 = .ok (.iconst 1, 1) := sorry
theorem dX5_batch_244 : decode cX5_batch 244 = .ok (.goto 4, 3) := sorry
theorem dX5_batch_247 : decode cX5_batch 247 = .ok (.iconst 0, 1) := sorry
theorem dX5_batch_248 : decode cX5_batch 248 = .ok (.iconst 1, 1) := sorry
theorem dX5_batch_249 : decode cX5_batch 249 = .ok (.aload_n 0, 1) := sorry
theorem dX5_batch_250 : decode cX5_batch 250 = .ok (.invokevirtual 42, 3) := sorry
theorem dX5_batch_253 : decode cX5_batch 253 = .ok (.invokevirtual 69, 3) := sorry
theorem dX5_batch_256 : decode cX5_batch 256 = .ok (.aload_n 0, 1) := sorry
theorem dX5_batch_257 : decode cX5_batch 257 = .ok (.getfield 18, 3) := sorry
theorem dX5_batch_260 : decode cX5_batch 260 = .ok (.getfield 115, 3) := sorry
theorem dX5_batch_263 : decode cX5_batch 263 = .ok (.aload 6, 2) := sorry
theorem dX5_batch_265 : decode cX5_batch 265 = .ok (.invokevirtual 165, 3) := sorry
theorem dX5_batch_268 : decode cX5_batch 268 = .ok (.pop, 1) := sorry
theorem dX5_batch_269 : decode cX5_batch 269 = .ok (.return_, 1) := sorry
abbrev cX5_after : ByteArray := prog_6_method_8_code
def yX5_after : MethodName := ⟨RX5, "after", "(Ljava/lang/String;II)I"⟩
def dkwX5_after_0 : List UInt8 := [42, 42, 43, 182, 0, 77, 4, 42, 182, 0, 42, 182, 0, 69, 42, 28, 29, 182, 0, 81, 172]
abbrev dktX5_after_0 : List UInt8 := dkwX5_after_0 ++ []
theorem dksX5_after_0 : cX5_after.data.toList.drop 0 = dktX5_after_0 := sorry
theorem dX5_after_0 : decode cX5_after 0 = .ok (.aload_n 0, 1) := sorry
theorem dX5_after_1 : decode cX5_after 1 = .ok (.aload_n 0, 1) := sorry
theorem dX5_after_2 : decode cX5_after 2 = .ok (.aload_n 1, 1) := sorry
theorem dX5_after_3 : decode cX5_after 3 = .ok (.invokevirtual 77, 3) := sorry
theorem dX5_after_6 : decode cX5_after 6 = .ok (.iconst 1, 1) := sorry
theorem dX5_after_7 : decode cX5_after 7 = .ok (.aload_n 0, 1) := sorry
theorem dX5_after_8 : decode cX5_after 8 = .ok (.invokevirtual 42, 3) := sorry
theorem dX5_after_11 : decode cX5_after 11 = .ok (.invokevirtual 69, 3) := sorry
theorem dX5_after_14 : decode cX5_after 14 = .ok (.aload_n 0, 1) := sorry
theorem dX5_after_15 : decode cX5_after 15 = .ok (.iload_n 2, 1) := sorry
theorem dX5_after_16 : decode cX5_after 16 = .ok (.iload_n 3, 1) := sorry
theorem dX5_after_17 : decode cX5_after 17 = .ok (.invokevirtual 81, 3) := sorry
theorem dX5_after_20 : decode cX5_after 20 = .ok (.ireturn, 1) := sorry
abbrev cX5_takes : ByteArray := prog_6_method_6_code
def yX5_takes : MethodName := ⟨RX5, "takes", "(Ljava/lang/String;)Z"⟩
def dkwX5_takes_1 : List UInt8 := [181, 0, 30, 28, 172]
abbrev dktX5_takes_1 : List UInt8 := dkwX5_takes_1 ++ []
def dkwX5_takes_0 : List UInt8 := [42, 182, 0, 57, 43, 182, 0, 60, 61, 28, 153, 0, 16, 42, 89, 180, 0, 30, 43, 182, 0, 66, 96]
abbrev dktX5_takes_0 : List UInt8 := dkwX5_takes_0 ++ dktX5_takes_1
theorem dksX5_takes_0 : cX5_takes.data.toList.drop 0 = dktX5_takes_0 := sorry
theorem dksX5_takes_1 : cX5_takes.data.toList.drop 23 = dktX5_takes_1 := sorry
theorem dX5_takes_0 : decode cX5_takes 0 = .ok (.aload_n 0, 1) := sorry
theorem dX5_takes_1 : decode cX5_takes 1 = .ok (.invokevirtual 57, 3) := sorry
theorem dX5_takes_4 : decode cX5_takes 4 = .ok (.aload_n 1, 1) := sorry
theorem dX5_takes_5 : decode cX5_takes 5 = .ok (.invokevirtual 60, 3) := sorry
theorem dX5_takes_8 : decode cX5_takes 8 = .ok (.istore_n 2, 1) := sorry
theorem dX5_takes_9 : decode cX5_takes 9 = .ok (.iload_n 2, 1) := sorry
theorem dX5_takes_10 : decode cX5_takes 10 = .ok (.ifCond .eq 16, 3) := sorry
theorem dX5_takes_13 : decode cX5_takes 13 = .ok (.aload_n 0, 1) := sorry
theorem dX5_takes_14 : decode cX5_takes 14 = .ok (.dup, 1) := sorry
theorem dX5_takes_15 : decode cX5_takes 15 = .ok (.getfield 30, 3) := sorry
theorem dX5_takes_18 : decode cX5_takes 18 = .ok (.aload_n 1, 1) := sorry
theorem dX5_takes_19 : decode cX5_takes 19 = .ok (.invokevirtual 66, 3) := sorry
theorem dX5_takes_22 : decode cX5_takes 22 = .ok (.iadd, 1) := sorry
theorem dX5_takes_23 : decode cX5_takes 23 = .ok (.putfield 30, 3) := sorry
theorem dX5_takes_26 : decode cX5_takes 26 = .ok (.iload_n 2, 1) := sorry
theorem dX5_takes_27 : decode cX5_takes 27 = .ok (.ireturn, 1) := sorry
theorem q108 : (Jvm.Cond.initialized "LabelDriver$Parser") ∈ lw_all := sorry
theorem q513 : (Jvm.Cond.fieldLinkNest "LabelDriver$Parser" (115 : Nat) "LabelDriver$Settings" "batches" "Ljava/util/ArrayList;" "LabelDriver") ∈ lw_tbl := sorry
theorem q517 : (Jvm.Cond.fieldLinkNest "LabelDriver$Parser" (98 : Nat) "LabelDriver$Settings" "sensor" "I" "LabelDriver") ∈ lw_tbl := sorry
theorem q520 : (Jvm.Cond.fieldLinkNest "LabelDriver$Parser" (101 : Nat) "LabelDriver$Settings" "edge" "I" "LabelDriver") ∈ lw_tbl := sorry
theorem q523 : (Jvm.Cond.fieldLinkNest "LabelDriver$Parser" (104 : Nat) "LabelDriver$Settings" "tolerance" "I" "LabelDriver") ∈ lw_tbl := sorry
theorem q525 : (Jvm.Cond.fieldLinkNest "LabelDriver$Parser" (107 : Nat) "LabelDriver$Settings" "top" "I" "LabelDriver") ∈ lw_tbl := sorry
theorem q529 : (Jvm.Cond.fieldLinkNest "LabelDriver$Parser" (110 : Nat) "LabelDriver$Settings" "height" "I" "LabelDriver") ∈ lw_tbl := sorry
theorem q639 : (Jvm.Cond.fieldLinkNest "LabelDriver$Parser" (26 : Nat) "LabelDriver" "tape" "[B" "LabelDriver") ∈ lw_tbl := sorry
theorem q1029 : (Jvm.Cond.instantiable "LabelDriver$Parser" (4 : Nat)) ∈ lw_all := sorry
theorem q1031 : (Jvm.Cond.instanceMethod ({ cls := "LabelDriver$Parser", name := "<init>", desc := "(LLabelDriver;I)V" } : Jvm.MethodName)) ∈ lw_all := sorry
theorem q1032 : (Jvm.Cond.code ({ cls := "LabelDriver$Parser", name := "<init>", desc := "(LLabelDriver;I)V" } : Jvm.MethodName) prog_6_method_1_code (3 : Nat) (Option.none : Option Jvm.ClassFile.FieldType)) ∈ lw_all := sorry
theorem q1033 : (Jvm.Cond.methodLink "LabelDriver$Parser" (9 : Nat) ({ cls := "java/lang/Object", name := "<init>", desc := "()V" } : Jvm.MethodName)) ∈ lw_all := sorry
theorem q1034 : (Jvm.Cond.classLink "LabelDriver$Parser" (15 : Nat) "LabelDriver$Settings") ∈ lw_all := sorry
theorem q1035 : (Jvm.Cond.methodLinkNest "LabelDriver$Parser" (17 : Nat) ({ cls := "LabelDriver$Settings", name := "<init>", desc := "()V" } : Jvm.MethodName) "LabelDriver") ∈ lw_tbl := sorry
theorem q1036 : (Jvm.Cond.fieldLink "LabelDriver$Parser" (18 : Nat) "LabelDriver$Parser" "read" "LLabelDriver$Settings;") ∈ lw_all := sorry
theorem q1038 : (Jvm.Cond.fieldLink "LabelDriver$Parser" (22 : Nat) "LabelDriver$Parser" "size" "I") ∈ lw_all := sorry
theorem q1039 : (Jvm.Cond.fieldLink "LabelDriver$Parser" (30 : Nat) "LabelDriver$Parser" "at" "I") ∈ lw_all := sorry
theorem q1040 : (Jvm.Cond.fieldLink "LabelDriver$Parser" (3 : Nat) "LabelDriver$Parser" "this$0" "LLabelDriver;") ∈ lw_all := sorry
theorem q1041 : (Jvm.Cond.laysFinal "LabelDriver$Parser" "LabelDriver$Parser" "read" "LLabelDriver$Settings;") ∈ lw_all := sorry
theorem q1042 : (Jvm.Cond.soleField "LabelDriver$Parser" "read") ∈ lw_all := sorry
theorem q1043 : (Jvm.Cond.laysFinal "LabelDriver$Parser" "LabelDriver$Parser" "size" "I") ∈ lw_all := sorry
theorem q1044 : (Jvm.Cond.soleField "LabelDriver$Parser" "size") ∈ lw_all := sorry
theorem q1045 : (Jvm.Cond.lays "LabelDriver$Parser" "LabelDriver$Parser" "at" "I") ∈ lw_all := sorry
theorem q1046 : (Jvm.Cond.soleField "LabelDriver$Parser" "at") ∈ lw_all := sorry
theorem q1047 : (Jvm.Cond.laysFinal "LabelDriver$Parser" "LabelDriver$Parser" "this$0" "LLabelDriver;") ∈ lw_all := sorry
theorem q1048 : (Jvm.Cond.soleField "LabelDriver$Parser" "this$0") ∈ lw_all := sorry
theorem q1049 : (Jvm.Cond.superclass "LabelDriver$Parser" "java/lang/Object") ∈ lw_all := sorry
theorem q1051 : (Jvm.Cond.instanceMethod ({ cls := "LabelDriver$Parser", name := "parse", desc := "()V" } : Jvm.MethodName)) ∈ lw_all := sorry
theorem q1052 : (Jvm.Cond.selects "LabelDriver$Parser" ({ cls := "LabelDriver$Parser", name := "parse", desc := "()V" } : Jvm.MethodName) ({ cls := "LabelDriver$Parser", name := "parse", desc := "()V" } : Jvm.MethodName)) ∈ lw_all := sorry
theorem q1053 : (Jvm.Cond.code ({ cls := "LabelDriver$Parser", name := "parse", desc := "()V" } : Jvm.MethodName) prog_6_method_9_code (1 : Nat) (Option.none : Option Jvm.ClassFile.FieldType)) ∈ lw_all := sorry
theorem q1054 : (Jvm.Cond.methodLink "LabelDriver$Parser" (42 : Nat) ({ cls := "LabelDriver$Parser", name := "skip", desc := "()I" } : Jvm.MethodName)) ∈ lw_all := sorry
theorem q1055 : (Jvm.Cond.privateMethod ({ cls := "LabelDriver$Parser", name := "skip", desc := "()I" } : Jvm.MethodName)) ∈ lw_tbl := sorry
theorem q1056 : (Jvm.Cond.instanceMethod ({ cls := "LabelDriver$Parser", name := "skip", desc := "()I" } : Jvm.MethodName)) ∈ lw_all := sorry
theorem q1057 : (Jvm.Cond.code ({ cls := "LabelDriver$Parser", name := "skip", desc := "()I" } : Jvm.MethodName) prog_6_method_3_code (1 : Nat) (Option.some Jvm.ClassFile.FieldType.int)) ∈ lw_all := sorry
theorem q1058 : (Jvm.Cond.methodLink "LabelDriver$Parser" (33 : Nat) ({ cls := "LabelDriver$Parser", name := "isIn", desc := "(III)Z" } : Jvm.MethodName)) ∈ lw_all := sorry
theorem q1059 : (Jvm.Cond.privateMethod ({ cls := "LabelDriver$Parser", name := "isIn", desc := "(III)Z" } : Jvm.MethodName)) ∈ lw_tbl := sorry
theorem q1060 : (Jvm.Cond.instanceMethod ({ cls := "LabelDriver$Parser", name := "isIn", desc := "(III)Z" } : Jvm.MethodName)) ∈ lw_all := sorry
theorem q1061 : (Jvm.Cond.code ({ cls := "LabelDriver$Parser", name := "isIn", desc := "(III)Z" } : Jvm.MethodName) prog_6_method_2_code (4 : Nat) (Option.some Jvm.ClassFile.FieldType.boolean)) ∈ lw_all := sorry
theorem q1062 : (Jvm.Cond.methodLink "LabelDriver$Parser" (85 : Nat) ({ cls := "LabelDriver$Parser", name := "line", desc := "(I)V" } : Jvm.MethodName)) ∈ lw_all := sorry
theorem q1063 : (Jvm.Cond.privateMethod ({ cls := "LabelDriver$Parser", name := "line", desc := "(I)V" } : Jvm.MethodName)) ∈ lw_tbl := sorry
theorem q1064 : (Jvm.Cond.instanceMethod ({ cls := "LabelDriver$Parser", name := "line", desc := "(I)V" } : Jvm.MethodName)) ∈ lw_all := sorry
theorem q1065 : (Jvm.Cond.code ({ cls := "LabelDriver$Parser", name := "line", desc := "(I)V" } : Jvm.MethodName) prog_6_method_10_code (5 : Nat) (Option.none : Option Jvm.ClassFile.FieldType)) ∈ lw_all := sorry
theorem q1066 : (Jvm.Cond.methodLink "LabelDriver$Parser" (57 : Nat) ({ cls := "LabelDriver$Parser", name := "word", desc := "()Ljava/lang/String;" } : Jvm.MethodName)) ∈ lw_all := sorry
theorem q1067 : (Jvm.Cond.privateMethod ({ cls := "LabelDriver$Parser", name := "word", desc := "()Ljava/lang/String;" } : Jvm.MethodName)) ∈ lw_tbl := sorry
theorem q1068 : (Jvm.Cond.instanceMethod ({ cls := "LabelDriver$Parser", name := "word", desc := "()Ljava/lang/String;" } : Jvm.MethodName)) ∈ lw_all := sorry
theorem q1069 : (Jvm.Cond.code ({ cls := "LabelDriver$Parser", name := "word", desc := "()Ljava/lang/String;" } : Jvm.MethodName) prog_6_method_5_code (4 : Nat) (Option.some (Jvm.ClassFile.FieldType.object "java/lang/String"))) ∈ lw_all := sorry
theorem q1070 : (Jvm.Cond.classLink "LabelDriver$Parser" (46 : Nat) "java/lang/StringBuilder") ∈ lw_all := sorry
theorem q1071 : (Jvm.Cond.methodLink "LabelDriver$Parser" (48 : Nat) ({ cls := "java/lang/StringBuilder", name := "<init>", desc := "()V" } : Jvm.MethodName)) ∈ lw_all := sorry
theorem q1072 : (Jvm.Cond.methodLink "LabelDriver$Parser" (49 : Nat) ({ cls := "java/lang/StringBuilder", name := "append", desc := "(C)Ljava/lang/StringBuilder;" } : Jvm.MethodName)) ∈ lw_all := sorry
theorem q1089 : (Jvm.Cond.methodLink "LabelDriver$Parser" (53 : Nat) ({ cls := "java/lang/StringBuilder", name := "toString", desc := "()Ljava/lang/String;" } : Jvm.MethodName)) ∈ lw_all := sorry
theorem q1090 : (Jvm.Cond.methodLink "LabelDriver$Parser" (66 : Nat) ({ cls := "java/lang/String", name := "length", desc := "()I" } : Jvm.MethodName)) ∈ lw_all := sorry
theorem q1091 : (Jvm.Cond.methodLink "LabelDriver$Parser" (89 : Nat) ({ cls := "java/lang/String", name := "hashCode", desc := "()I" } : Jvm.MethodName)) ∈ lw_all := sorry
theorem q1152 : (Jvm.Cond.stringRef "LabelDriver$Parser" (92 : Nat) "press") ∈ lw_tbl := sorry
theorem q1153 : (Jvm.Cond.methodLink "LabelDriver$Parser" (60 : Nat) ({ cls := "java/lang/String", name := "equals", desc := "(Ljava/lang/Object;)Z" } : Jvm.MethodName)) ∈ lw_all := sorry
theorem q1161 : (Jvm.Cond.stringRef "LabelDriver$Parser" (94 : Nat) "area") ∈ lw_tbl := sorry
theorem q1162 : (Jvm.Cond.stringRef "LabelDriver$Parser" (96 : Nat) "batch") ∈ lw_tbl := sorry
theorem q1163 : (Jvm.Cond.methodLink "LabelDriver$Parser" (81 : Nat) ({ cls := "LabelDriver$Parser", name := "number", desc := "(II)I" } : Jvm.MethodName)) ∈ lw_all := sorry
theorem q1164 : (Jvm.Cond.privateMethod ({ cls := "LabelDriver$Parser", name := "number", desc := "(II)I" } : Jvm.MethodName)) ∈ lw_tbl := sorry
theorem q1165 : (Jvm.Cond.instanceMethod ({ cls := "LabelDriver$Parser", name := "number", desc := "(II)I" } : Jvm.MethodName)) ∈ lw_all := sorry
theorem q1166 : (Jvm.Cond.code ({ cls := "LabelDriver$Parser", name := "number", desc := "(II)I" } : Jvm.MethodName) prog_6_method_7_code (5 : Nat) (Option.some Jvm.ClassFile.FieldType.int)) ∈ lw_all := sorry
theorem q1167 : (Jvm.Cond.methodLink "LabelDriver$Parser" (69 : Nat) ({ cls := "LabelDriver$Parser", name := "check", desc := "(ZII)V" } : Jvm.MethodName)) ∈ lw_all := sorry
theorem q1168 : (Jvm.Cond.privateMethod ({ cls := "LabelDriver$Parser", name := "check", desc := "(ZII)V" } : Jvm.MethodName)) ∈ lw_tbl := sorry
theorem q1169 : (Jvm.Cond.instanceMethod ({ cls := "LabelDriver$Parser", name := "check", desc := "(ZII)V" } : Jvm.MethodName)) ∈ lw_all := sorry
theorem q1170 : (Jvm.Cond.code ({ cls := "LabelDriver$Parser", name := "check", desc := "(ZII)V" } : Jvm.MethodName) prog_6_method_4_code (4 : Nat) (Option.none : Option Jvm.ClassFile.FieldType)) ∈ lw_all := sorry
theorem q1171 : (Jvm.Cond.classLink "LabelDriver$Parser" (37 : Nat) "LabelDriver$Malformed") ∈ lw_all := sorry
theorem q1180 : (Jvm.Cond.methodLink "LabelDriver$Parser" (39 : Nat) ({ cls := "LabelDriver$Malformed", name := "<init>", desc := "(II)V" } : Jvm.MethodName)) ∈ lw_all := sorry
theorem q1199 : (Jvm.Cond.methodLinkNest "LabelDriver$Parser" (73 : Nat) ({ cls := "LabelDriver", name := "in", desc := "(JJJ)Z" } : Jvm.MethodName) "LabelDriver") ∈ lw_tbl := sorry
theorem q1200 : (Jvm.Cond.methodLink "LabelDriver$Parser" (113 : Nat) ({ cls := "LabelDriver$Parser", name := "batch", desc := "(I)V" } : Jvm.MethodName)) ∈ lw_all := sorry
theorem q1201 : (Jvm.Cond.privateMethod ({ cls := "LabelDriver$Parser", name := "batch", desc := "(I)V" } : Jvm.MethodName)) ∈ lw_tbl := sorry
theorem q1202 : (Jvm.Cond.instanceMethod ({ cls := "LabelDriver$Parser", name := "batch", desc := "(I)V" } : Jvm.MethodName)) ∈ lw_all := sorry
theorem q1203 : (Jvm.Cond.code ({ cls := "LabelDriver$Parser", name := "batch", desc := "(I)V" } : Jvm.MethodName) prog_6_method_11_code (7 : Nat) (Option.none : Option Jvm.ClassFile.FieldType)) ∈ lw_all := sorry
theorem q1204 : (Jvm.Cond.methodLink "LabelDriver$Parser" (119 : Nat) ({ cls := "java/util/ArrayList", name := "size", desc := "()I" } : Jvm.MethodName)) ∈ lw_all := sorry
theorem q1205 : (Jvm.Cond.constantLong "LabelDriver$Parser" (123 : Nat) (6 : Int64)) ∈ lw_all := sorry
theorem q1206 : (Jvm.Cond.methodLink "LabelDriver$Parser" (125 : Nat) ({ cls := "java/util/ArrayList", name := "get", desc := "(I)Ljava/lang/Object;" } : Jvm.MethodName)) ∈ lw_all := sorry
theorem q1207 : (Jvm.Cond.classLink "LabelDriver$Parser" (129 : Nat) "LabelDriver$Batch") ∈ lw_all := sorry
theorem q1208 : (Jvm.Cond.stringRef "LabelDriver$Parser" (135 : Nat) "from") ∈ lw_tbl := sorry
theorem q1209 : (Jvm.Cond.fieldLinkNest "LabelDriver$Parser" (137 : Nat) "LabelDriver" "TENS" "[I" "LabelDriver") ∈ lw_tbl := sorry
theorem q1210 : (Jvm.Cond.methodLink "LabelDriver$Parser" (141 : Nat) ({ cls := "LabelDriver$Parser", name := "after", desc := "(Ljava/lang/String;II)I" } : Jvm.MethodName)) ∈ lw_all := sorry
theorem q1211 : (Jvm.Cond.privateMethod ({ cls := "LabelDriver$Parser", name := "after", desc := "(Ljava/lang/String;II)I" } : Jvm.MethodName)) ∈ lw_tbl := sorry
theorem q1212 : (Jvm.Cond.instanceMethod ({ cls := "LabelDriver$Parser", name := "after", desc := "(Ljava/lang/String;II)I" } : Jvm.MethodName)) ∈ lw_all := sorry
theorem q1213 : (Jvm.Cond.code ({ cls := "LabelDriver$Parser", name := "after", desc := "(Ljava/lang/String;II)I" } : Jvm.MethodName) prog_6_method_8_code (4 : Nat) (Option.some Jvm.ClassFile.FieldType.int)) ∈ lw_all := sorry
theorem q1214 : (Jvm.Cond.methodLink "LabelDriver$Parser" (77 : Nat) ({ cls := "LabelDriver$Parser", name := "takes", desc := "(Ljava/lang/String;)Z" } : Jvm.MethodName)) ∈ lw_all := sorry
theorem q1215 : (Jvm.Cond.privateMethod ({ cls := "LabelDriver$Parser", name := "takes", desc := "(Ljava/lang/String;)Z" } : Jvm.MethodName)) ∈ lw_tbl := sorry
theorem q1216 : (Jvm.Cond.instanceMethod ({ cls := "LabelDriver$Parser", name := "takes", desc := "(Ljava/lang/String;)Z" } : Jvm.MethodName)) ∈ lw_all := sorry
theorem q1217 : (Jvm.Cond.code ({ cls := "LabelDriver$Parser", name := "takes", desc := "(Ljava/lang/String;)Z" } : Jvm.MethodName) prog_6_method_6_code (3 : Nat) (Option.some Jvm.ClassFile.FieldType.boolean)) ∈ lw_all := sorry
theorem q1218 : (Jvm.Cond.stringRef "LabelDriver$Parser" (145 : Nat) "count") ∈ lw_tbl := sorry
theorem q1219 : (Jvm.Cond.stringRef "LabelDriver$Parser" (147 : Nat) "step") ∈ lw_tbl := sorry
theorem q1221 : (Jvm.Cond.stringRef "LabelDriver$Parser" (149 : Nat) "width") ∈ lw_tbl := sorry
theorem q1222 : (Jvm.Cond.methodLink "LabelDriver$Parser" (151 : Nat) ({ cls := "LabelDriver$Batch", name := "<init>", desc := "(Ljava/lang/String;[I)V" } : Jvm.MethodName)) ∈ lw_all := sorry
theorem q1227 : (Jvm.Cond.fieldLinkNest "LabelDriver$Parser" (131 : Nat) "LabelDriver$Batch" "name" "Ljava/lang/String;" "LabelDriver") ∈ lw_tbl := sorry
theorem q1238 : (Jvm.Cond.fieldLinkNest "LabelDriver$Parser" (155 : Nat) "LabelDriver$Batch" "isChecked" "Z" "LabelDriver") ∈ lw_tbl := sorry
theorem q1240 : (Jvm.Cond.fieldLinkNest "LabelDriver$Parser" (161 : Nat) "LabelDriver$Batch" "isAgain" "Z" "LabelDriver") ∈ lw_tbl := sorry
theorem q1258 : (Jvm.Cond.stringRef "LabelDriver$Parser" (154 : Nat) "check") ∈ lw_tbl := sorry
theorem q1259 : (Jvm.Cond.stringRef "LabelDriver$Parser" (159 : Nat) "again") ∈ lw_tbl := sorry
theorem q1260 : (Jvm.Cond.stringRef "LabelDriver$Parser" (164 : Nat) "skip") ∈ lw_tbl := sorry
theorem q1261 : (Jvm.Cond.methodLink "LabelDriver$Parser" (165 : Nat) ({ cls := "java/util/ArrayList", name := "add", desc := "(Ljava/lang/Object;)Z" } : Jvm.MethodName)) ∈ lw_all := sorry
theorem q1291 : (Jvm.Cond.selects "LabelDriver$Parser" ({ cls := "java/lang/Object", name := "getClass", desc := "()Ljava/lang/Class;" } : Jvm.MethodName) ({ cls := "java/lang/Object", name := "getClass", desc := "()Ljava/lang/Class;" } : Jvm.MethodName)) ∈ lw_all := sorry
theorem q2646 : (Jvm.Cond.castable "LabelDriver$Parser" "java/lang/Object") ∈ lw_tbl := sorry
theorem in_X5 : ∀ w ∈ wsX50, w ∈ lw_all := sorry
/-! LabelDriver$Malformed -/
set_option maxRecDepth 100000
def RX6 : String := "LabelDriver$Malformed"
def TX6 : u_T := fun k => match k with
  | 0 => ("java/lang/Throwable", "cause", "Ljava/lang/Throwable;", false)
  | 1 => ("java/lang/Throwable", "stackTrace", "[Ljava/lang/StackTraceElement;", false)
  | 2 => ("java/lang/Throwable", "suppressedExceptions", "Ljava/util/List;", false)
  | 3 => ("java/lang/Throwable", "detailMessage", "Ljava/lang/String;", false)
  | 4 => ("java/lang/Throwable", "backtrace", "Ljava/lang/Object;", false)
  | 5 => ("java/lang/Throwable", "depth", "I", false)
  | 6 => ("LabelDriver$Malformed", "kind", "I", true)
  | _ => ("LabelDriver$Malformed", "offset", "I", true)
def tyX6 : Nat → FieldType := fun k => match k with
  | 0 => .object "java/lang/Throwable"
  | 1 => .array (.object "java/lang/StackTraceElement")
  | 2 => .object "java/util/List"
  | 3 => .object "java/lang/String"
  | 4 => .object "java/lang/Object"
  | 5 => .int
  | 6 => .int
  | _ => .int
abbrev wsX60 : List Cond := u_ws RX6 TX6 8
theorem nmX6 : ∀ a, a < 8 → ∀ b, b < 8 → a ≠ b → (TX6 a).2.1 ≠ (TX6 b).2.1 := sorry
theorem tyX6_ok : ∀ k, k < 8 → parseFieldDescriptor (TX6 k).2.2.1 = some (tyX6 k) := sorry
abbrev cX6_init : ByteArray := prog_4_method_1_code
def yX6_init : MethodName := ⟨RX6, "<init>", "(II)V"⟩
def dkwX6_init_0 : List UInt8 := [42, 1, 1, 3, 3, 183, 0, 1, 42, 27, 181, 0, 7, 42, 28, 181, 0, 13, 177]
abbrev dktX6_init_0 : List UInt8 := dkwX6_init_0 ++ []
theorem dksX6_init_0 : cX6_init.data.toList.drop 0 = dktX6_init_0 := sorry
theorem dX6_init_0 : decode cX6_init 0 = .ok (.aload_n 0, 1) := sorry
theorem dX6_init_1 : decode cX6_init 1 = .ok (.aconst_null, 1) := sorry
theorem dX6_init_2 : decode cX6_init 2 = .ok (.aconst_null, 1) := sorry
theorem dX6_init_3 : decode cX6_init 3 = .ok (.iconst 0, 1) := sorry
theorem dX6_init_4 : decode cX6_init 4 = .ok (.iconst 0, 1) := sorry
theorem dX6_init_5 : decode cX6_init 5 = .ok (.invokespecial 1, 3) := sorry
theorem dX6_init_8 : decode cX6_init 8 = .ok (.aload_n 0, 1) := sorry
theorem dX6_init_9 : decode cX6_init 9 = .ok (.iload_n 1, 1) := sorry
theorem dX6_init_10 : decode cX6_init 10 = .ok (.putfield 7, 3) := sorry
theorem dX6_init_13 : decode cX6_init 13 = .ok (.aload_n 0, 1) := sorry
theorem dX6_init_14 : decode cX6_init 14 = .ok (.iload_n 2, 1) := sorry
theorem dX6_init_15 : decode cX6_init 15 = .ok (.putfield 13, 3) := sorry
theorem dX6_init_18 : decode cX6_init 18 = .ok (.return_, 1) := sorry
theorem q109 : (Jvm.Cond.initialized "LabelDriver$Malformed") ∈ lw_all := sorry
theorem q211 : (Jvm.Cond.selects "LabelDriver$Malformed" ({ cls := "java/lang/Throwable", name := "fillInStackTrace", desc := "()Ljava/lang/Throwable;" } : Jvm.MethodName) ({ cls := "java/lang/Throwable", name := "fillInStackTrace", desc := "()Ljava/lang/Throwable;" } : Jvm.MethodName)) ∈ lw_all := sorry
theorem q1172 : (Jvm.Cond.instantiable "LabelDriver$Malformed" (8 : Nat)) ∈ lw_all := sorry
theorem q1173 : (Jvm.Cond.castable "LabelDriver$Malformed" "LabelDriver$Malformed") ∈ lw_tbl := sorry
theorem q1174 : (Jvm.Cond.selects "LabelDriver$Malformed" ({ cls := "java/lang/Throwable", name := "fillInStackTrace", desc := "(I)Ljava/lang/Throwable;" } : Jvm.MethodName) ({ cls := "java/lang/Throwable", name := "fillInStackTrace", desc := "(I)Ljava/lang/Throwable;" } : Jvm.MethodName)) ∈ lw_all := sorry
theorem q1175 : (Jvm.Cond.lays "LabelDriver$Malformed" "java/lang/Throwable" "cause" "Ljava/lang/Throwable;") ∈ lw_all := sorry
theorem q1176 : (Jvm.Cond.lays "LabelDriver$Malformed" "java/lang/Throwable" "stackTrace" "[Ljava/lang/StackTraceElement;") ∈ lw_all := sorry
theorem q1177 : (Jvm.Cond.lays "LabelDriver$Malformed" "java/lang/Throwable" "suppressedExceptions" "Ljava/util/List;") ∈ lw_all := sorry
theorem q1178 : (Jvm.Cond.lays "LabelDriver$Malformed" "java/lang/Throwable" "detailMessage" "Ljava/lang/String;") ∈ lw_all := sorry
theorem q1179 : (Jvm.Cond.lays "LabelDriver$Malformed" "java/lang/Throwable" "backtrace" "Ljava/lang/Object;") ∈ lw_all := sorry
theorem q1181 : (Jvm.Cond.instanceMethod ({ cls := "LabelDriver$Malformed", name := "<init>", desc := "(II)V" } : Jvm.MethodName)) ∈ lw_all := sorry
theorem q1182 : (Jvm.Cond.code ({ cls := "LabelDriver$Malformed", name := "<init>", desc := "(II)V" } : Jvm.MethodName) prog_4_method_1_code (3 : Nat) (Option.none : Option Jvm.ClassFile.FieldType)) ∈ lw_all := sorry
theorem q1183 : (Jvm.Cond.methodLink "LabelDriver$Malformed" (1 : Nat) ({ cls := "java/lang/Exception", name := "<init>", desc := "(Ljava/lang/String;Ljava/lang/Throwable;ZZ)V" } : Jvm.MethodName)) ∈ lw_all := sorry
theorem q1189 : (Jvm.Cond.fieldLink "LabelDriver$Malformed" (7 : Nat) "LabelDriver$Malformed" "kind" "I") ∈ lw_all := sorry
theorem q1191 : (Jvm.Cond.fieldLink "LabelDriver$Malformed" (13 : Nat) "LabelDriver$Malformed" "offset" "I") ∈ lw_all := sorry
theorem q1193 : (Jvm.Cond.laysFinal "LabelDriver$Malformed" "LabelDriver$Malformed" "kind" "I") ∈ lw_all := sorry
theorem q1194 : (Jvm.Cond.soleField "LabelDriver$Malformed" "kind") ∈ lw_all := sorry
theorem q1195 : (Jvm.Cond.laysFinal "LabelDriver$Malformed" "LabelDriver$Malformed" "offset" "I") ∈ lw_all := sorry
theorem q1196 : (Jvm.Cond.soleField "LabelDriver$Malformed" "offset") ∈ lw_all := sorry
theorem q1197 : (Jvm.Cond.lays "LabelDriver$Malformed" "java/lang/Throwable" "depth" "I") ∈ lw_all := sorry
theorem q1198 : (Jvm.Cond.superclass "LabelDriver$Malformed" "java/lang/Exception") ∈ lw_all := sorry
theorem q1289 : (Jvm.Cond.selects "LabelDriver$Malformed" ({ cls := "java/lang/Object", name := "getClass", desc := "()Ljava/lang/Class;" } : Jvm.MethodName) ({ cls := "java/lang/Object", name := "getClass", desc := "()Ljava/lang/Class;" } : Jvm.MethodName)) ∈ lw_all := sorry
theorem q2648 : (Jvm.Cond.castable "LabelDriver$Malformed" "java/lang/Object") ∈ lw_tbl := sorry
theorem in_X6 : ∀ w ∈ wsX60, w ∈ lw_all := sorry
/-! LabelDriver$Batch -/
set_option maxRecDepth 100000
def RX7 : String := "LabelDriver$Batch"
def TX7 : u_T := fun k => match k with
  | 0 => ("LabelDriver$Batch", "name", "Ljava/lang/String;", true)
  | 1 => ("LabelDriver$Batch", "first", "I", true)
  | 2 => ("LabelDriver$Batch", "count", "I", true)
  | 3 => ("LabelDriver$Batch", "step", "I", true)
  | 4 => ("LabelDriver$Batch", "width", "I", true)
  | 5 => ("LabelDriver$Batch", "isChecked", "Z", false)
  | _ => ("LabelDriver$Batch", "isAgain", "Z", false)
def tyX7 : Nat → FieldType := fun k => match k with
  | 0 => .object "java/lang/String"
  | 1 => .int
  | 2 => .int
  | 3 => .int
  | 4 => .int
  | 5 => .boolean
  | _ => .boolean
abbrev wsX70 : List Cond := u_ws RX7 TX7 7
theorem nmX7 : ∀ a, a < 7 → ∀ b, b < 7 → a ≠ b → (TX7 a).2.1 ≠ (TX7 b).2.1 := sorry
theorem tyX7_ok : ∀ k, k < 7 → parseFieldDescriptor (TX7 k).2.2.1 = some (tyX7 k) := sorry
abbrev cX7_number : ByteArray := prog_2_method_2_code
def yX7_number : MethodName := ⟨RX7, "number", "(I)I"⟩
def dkwX7_number_0 : List UInt8 := [42, 180, 0, 13, 27, 42, 180, 0, 20, 104, 96, 178, 0, 26, 42, 180, 0, 23, 46, 112, 172]
abbrev dktX7_number_0 : List UInt8 := dkwX7_number_0 ++ []
theorem dksX7_number_0 : cX7_number.data.toList.drop 0 = dktX7_number_0 := sorry
theorem dX7_number_0 : decode cX7_number 0 = .ok (.aload_n 0, 1) := sorry
theorem dX7_number_1 : decode cX7_number 1 = .ok (.getfield 13, 3) := sorry
theorem dX7_number_4 : decode cX7_number 4 = .ok (.iload_n 1, 1) := sorry
theorem dX7_number_5 : decode cX7_number 5 = .ok (.aload_n 0, 1) := sorry
theorem dX7_number_6 : decode cX7_number 6 = .ok (.getfield 20, 3) := sorry
theorem dX7_number_9 : decode cX7_number 9 = .ok (.imul, 1) := sorry
theorem dX7_number_10 : decode cX7_number 10 = .ok (.iadd, 1) := sorry
theorem dX7_number_11 : decode cX7_number 11 = .ok (.getstatic 26, 3) := sorry
theorem dX7_number_14 : decode cX7_number 14 = .ok (.aload_n 0, 1) := sorry
theorem dX7_number_15 : decode cX7_number 15 = .ok (.getfield 23, 3) := sorry
theorem dX7_number_18 : decode cX7_number 18 = .ok (.iaload, 1) := sorry
theorem dX7_number_19 : decode cX7_number 19 = .ok (.irem, 1) := sorry
theorem dX7_number_20 : decode cX7_number 20 = .ok (.ireturn, 1) := sorry
abbrev cX7_init : ByteArray := prog_2_method_1_code
def yX7_init : MethodName := ⟨RX7, "<init>", "(Ljava/lang/String;[I)V"⟩
def dkwX7_init_1 : List UInt8 := [44, 5, 46, 181, 0, 20, 42, 44, 6, 46, 181, 0, 23, 177]
abbrev dktX7_init_1 : List UInt8 := dkwX7_init_1 ++ []
def dkwX7_init_0 : List UInt8 := [42, 183, 0, 1, 42, 43, 181, 0, 7, 42, 44, 3, 46, 181, 0, 13, 42, 44, 4, 46, 181, 0, 17, 42]
abbrev dktX7_init_0 : List UInt8 := dkwX7_init_0 ++ dktX7_init_1
theorem dksX7_init_0 : cX7_init.data.toList.drop 0 = dktX7_init_0 := sorry
theorem dksX7_init_1 : cX7_init.data.toList.drop 24 = dktX7_init_1 := sorry
theorem dX7_init_0 : decode cX7_init 0 = .ok (.aload_n 0, 1) := sorry
theorem dX7_init_1 : decode cX7_init 1 = .ok (.invokespecial 1, 3) := sorry
theorem dX7_init_4 : decode cX7_init 4 = .ok (.aload_n 0, 1) := sorry
theorem dX7_init_5 : decode cX7_init 5 = .ok (.aload_n 1, 1) := sorry
theorem dX7_init_6 : decode cX7_init 6 = .ok (.putfield 7, 3) := sorry
theorem dX7_init_9 : decode cX7_init 9 = .ok (.aload_n 0, 1) := sorry
theorem dX7_init_10 : decode cX7_init 10 = .ok (.aload_n 2, 1) := sorry
theorem dX7_init_11 : decode cX7_init 11 = .ok (.iconst 0, 1) := sorry
theorem dX7_init_12 : decode cX7_init 12 = .ok (.iaload, 1) := sorry
theorem dX7_init_13 : decode cX7_init 13 = .ok (.putfield 13, 3) := sorry
theorem dX7_init_16 : decode cX7_init 16 = .ok (.aload_n 0, 1) := sorry
theorem dX7_init_17 : decode cX7_init 17 = .ok (.aload_n 2, 1) := sorry
theorem dX7_init_18 : decode cX7_init 18 = .ok (.iconst 1, 1) := sorry
theorem dX7_init_19 : decode cX7_init 19 = .ok (.iaload, 1) := sorry
theorem dX7_init_20 : decode cX7_init 20 = .ok (.putfield 17, 3) := sorry
theorem dX7_init_23 : decode cX7_init 23 = .ok (.aload_n 0, 1) := sorry
theorem dX7_init_24 : decode cX7_init 24 = .ok (.aload_n 2, 1) := sorry
theorem dX7_init_25 : decode cX7_init 25 = .ok (.iconst 2, 1) := sorry
theorem dX7_init_26 : decode cX7_init 26 = .ok (.iaload, 1) := sorry
theorem dX7_init_27 : decode cX7_init 27 = .ok (.putfield 20, 3) := sorry
theorem dX7_init_30 : decode cX7_init 30 = .ok (.aload_n 0, 1) := sorry
theorem dX7_init_31 : decode cX7_init 31 = .ok (.aload_n 2, 1) := sorry
theorem dX7_init_32 : decode cX7_init 32 = .ok (.iconst 3, 1) := sorry
theorem dX7_init_33 : decode cX7_init 33 = .ok (.iaload, 1) := sorry
theorem dX7_init_34 : decode cX7_init 34 = .ok (.putfield 23, 3) := sorry
theorem dX7_init_37 : decode cX7_init 37 = .ok (.return_, 1) := sorry
abbrev cX7_checkDigit : ByteArray := prog_2_method_3_code
def yX7_checkDigit : MethodName := ⟨RX7, "checkDigit", "(I)I"⟩
def dkwX7_checkDigit_2 : List UInt8 := [16, 10, 112, 172]
abbrev dktX7_checkDigit_2 : List UInt8 := dkwX7_checkDigit_2 ++ []
def dkwX7_checkDigit_1 : List UInt8 := [96, 61, 7, 29, 100, 62, 21, 4, 16, 10, 108, 54, 4, 167, 255, 230, 16, 10, 28, 16, 10, 112, 100]
abbrev dktX7_checkDigit_1 : List UInt8 := dkwX7_checkDigit_1 ++ dktX7_checkDigit_2
def dkwX7_checkDigit_0 : List UInt8 := [3, 61, 6, 62, 42, 27, 182, 0, 32, 54, 4, 21, 4, 158, 0, 27, 28, 29, 21, 4, 16, 10, 112, 104]
abbrev dktX7_checkDigit_0 : List UInt8 := dkwX7_checkDigit_0 ++ dktX7_checkDigit_1
theorem dksX7_checkDigit_0 : cX7_checkDigit.data.toList.drop 0 = dktX7_checkDigit_0 := sorry
theorem dksX7_checkDigit_1 : cX7_checkDigit.data.toList.drop 24 = dktX7_checkDigit_1 := sorry
theorem dksX7_checkDigit_2 : cX7_checkDigit.data.toList.drop 47 = dktX7_checkDigit_2 := sorry
theorem dX7_checkDigit_0 : decode cX7_checkDigit 0 = .ok (.iconst 0, 1) := sorry
theorem dX7_checkDigit_1 : decode cX7_checkDigit 1 = .ok (.istore_n 2, 1) := sorry
theorem dX7_checkDigit_2 : decode cX7_checkDigit 2 = .ok (.iconst 3, 1) := sorry
theorem dX7_checkDigit_3 : decode cX7_checkDigit 3 = .ok (.istore_n 3, 1) := sorry
theorem dX7_checkDigit_4 : decode cX7_checkDigit 4 = .ok (.aload_n 0, 1) := sorry
theorem dX7_checkDigit_5 : decode cX7_checkDigit 5 = .ok (.iload_n 1, 1) := sorry
theorem dX7_checkDigit_6 : decode cX7_checkDigit 6 = .ok (.invokevirtual 32, 3) := sorry
theorem dX7_checkDigit_9 : decode cX7_checkDigit 9 = .ok (.istore 4, 2) := sorry
theorem dX7_checkDigit_11 : decode cX7_checkDigit 11 = .ok (.iload 4, 2) := sorry
theorem dX7_checkDigit_13 : decode cX7_checkDigit 13 = .ok (.ifCond .le 27, 3) := sorry
theorem dX7_checkDigit_16 : decode cX7_checkDigit 16 = .ok (.iload_n 2, 1) := sorry
theorem dX7_checkDigit_17 : decode cX7_checkDigit 17 = .ok (.iload_n 3, 1) := sorry
theorem dX7_checkDigit_18 : decode cX7_checkDigit 18 = .ok (.iload 4, 2) := sorry
theorem dX7_checkDigit_20 : decode cX7_checkDigit 20 = .ok (.bipush 10, 2) := sorry
theorem dX7_checkDigit_22 : decode cX7_checkDigit 22 = .ok (.irem, 1) := sorry
theorem dX7_checkDigit_23 : decode cX7_checkDigit 23 = .ok (.imul, 1) := sorry
theorem dX7_checkDigit_24 : decode cX7_checkDigit 24 = .ok (.iadd, 1) := sorry
theorem dX7_checkDigit_25 : decode cX7_checkDigit 25 = .ok (.istore_n 2, 1) := sorry
theorem dX7_checkDigit_26 : decode cX7_checkDigit 26 = .ok (.iconst 4, 1) := sorry
theorem dX7_checkDigit_27 : decode cX7_checkDigit 27 = .ok (.iload_n 3, 1) := sorry
theorem dX7_checkDigit_28 : decode cX7_checkDigit 28 = .ok (.isub, 1) := sorry
theorem dX7_checkDigit_29 : decode cX7_checkDigit 29 = .ok (.istore_n 3, 1) := sorry
theorem dX7_checkDigit_30 : decode cX7_checkDigit 30 = .ok (.iload 4, 2) := sorry
theorem dX7_checkDigit_32 : decode cX7_checkDigit 32 = .ok (.bipush 10, 2) := sorry
theorem dX7_checkDigit_34 : decode cX7_checkDigit 34 = .ok (.idiv, 1) := sorry
theorem dX7_checkDigit_35 : decode cX7_checkDigit 35 = .ok (.istore 4, 2) := sorry
theorem dX7_checkDigit_37 : decode cX7_checkDigit 37 = .ok (.goto (-26), 3) := sorry
theorem dX7_checkDigit_40 : decode cX7_checkDigit 40 = .ok (.bipush 10, 2) := sorry
theorem dX7_checkDigit_42 : decode cX7_checkDigit 42 = .ok (.iload_n 2, 1) := sorry
theorem dX7_checkDigit_43 : decode cX7_checkDigit 43 = .ok (.bipush 10, 2) := sorry
theorem dX7_checkDigit_45 : decode cX7_checkDigit 45 = .ok (.irem, 1) := sorry
theorem dX7_checkDigit_46 : decode cX7_checkDigit 46 = .ok (.isub, 1) := sorry
theorem dX7_checkDigit_47 : decode cX7_checkDigit 47 = .ok (.bipush 10, 2) := sorry
theorem dX7_checkDigit_49 : decode cX7_checkDigit 49 = .ok (.irem, 1) := sorry
theorem dX7_checkDigit_50 : decode cX7_checkDigit 50 = .ok (.ireturn, 1) := sorry
theorem q111 : (Jvm.Cond.initialized "LabelDriver$Batch") ∈ lw_all := sorry
theorem q917 : (Jvm.Cond.instanceMethod ({ cls := "LabelDriver$Batch", name := "number", desc := "(I)I" } : Jvm.MethodName)) ∈ lw_all := sorry
theorem q918 : (Jvm.Cond.selects "LabelDriver$Batch" ({ cls := "LabelDriver$Batch", name := "number", desc := "(I)I" } : Jvm.MethodName) ({ cls := "LabelDriver$Batch", name := "number", desc := "(I)I" } : Jvm.MethodName)) ∈ lw_all := sorry
theorem q919 : (Jvm.Cond.code ({ cls := "LabelDriver$Batch", name := "number", desc := "(I)I" } : Jvm.MethodName) prog_2_method_2_code (2 : Nat) (Option.some Jvm.ClassFile.FieldType.int)) ∈ lw_all := sorry
theorem q920 : (Jvm.Cond.fieldLinkNest "LabelDriver$Batch" (26 : Nat) "LabelDriver" "TENS" "[I" "LabelDriver") ∈ lw_tbl := sorry
theorem q1220 : (Jvm.Cond.instantiable "LabelDriver$Batch" (7 : Nat)) ∈ lw_all := sorry
theorem q1223 : (Jvm.Cond.instanceMethod ({ cls := "LabelDriver$Batch", name := "<init>", desc := "(Ljava/lang/String;[I)V" } : Jvm.MethodName)) ∈ lw_all := sorry
theorem q1224 : (Jvm.Cond.code ({ cls := "LabelDriver$Batch", name := "<init>", desc := "(Ljava/lang/String;[I)V" } : Jvm.MethodName) prog_2_method_1_code (3 : Nat) (Option.none : Option Jvm.ClassFile.FieldType)) ∈ lw_all := sorry
theorem q1225 : (Jvm.Cond.methodLink "LabelDriver$Batch" (1 : Nat) ({ cls := "java/lang/Object", name := "<init>", desc := "()V" } : Jvm.MethodName)) ∈ lw_all := sorry
theorem q1226 : (Jvm.Cond.fieldLink "LabelDriver$Batch" (7 : Nat) "LabelDriver$Batch" "name" "Ljava/lang/String;") ∈ lw_all := sorry
theorem q1229 : (Jvm.Cond.fieldLink "LabelDriver$Batch" (13 : Nat) "LabelDriver$Batch" "first" "I") ∈ lw_all := sorry
theorem q1231 : (Jvm.Cond.fieldLink "LabelDriver$Batch" (17 : Nat) "LabelDriver$Batch" "count" "I") ∈ lw_all := sorry
theorem q1234 : (Jvm.Cond.fieldLink "LabelDriver$Batch" (20 : Nat) "LabelDriver$Batch" "step" "I") ∈ lw_all := sorry
theorem q1236 : (Jvm.Cond.fieldLink "LabelDriver$Batch" (23 : Nat) "LabelDriver$Batch" "width" "I") ∈ lw_all := sorry
theorem q1243 : (Jvm.Cond.laysFinal "LabelDriver$Batch" "LabelDriver$Batch" "name" "Ljava/lang/String;") ∈ lw_all := sorry
theorem q1244 : (Jvm.Cond.soleField "LabelDriver$Batch" "name") ∈ lw_all := sorry
theorem q1245 : (Jvm.Cond.laysFinal "LabelDriver$Batch" "LabelDriver$Batch" "first" "I") ∈ lw_all := sorry
theorem q1246 : (Jvm.Cond.soleField "LabelDriver$Batch" "first") ∈ lw_all := sorry
theorem q1247 : (Jvm.Cond.laysFinal "LabelDriver$Batch" "LabelDriver$Batch" "count" "I") ∈ lw_all := sorry
theorem q1248 : (Jvm.Cond.soleField "LabelDriver$Batch" "count") ∈ lw_all := sorry
theorem q1249 : (Jvm.Cond.laysFinal "LabelDriver$Batch" "LabelDriver$Batch" "step" "I") ∈ lw_all := sorry
theorem q1250 : (Jvm.Cond.soleField "LabelDriver$Batch" "step") ∈ lw_all := sorry
theorem q1251 : (Jvm.Cond.laysFinal "LabelDriver$Batch" "LabelDriver$Batch" "width" "I") ∈ lw_all := sorry
theorem q1252 : (Jvm.Cond.soleField "LabelDriver$Batch" "width") ∈ lw_all := sorry
theorem q1253 : (Jvm.Cond.lays "LabelDriver$Batch" "LabelDriver$Batch" "isChecked" "Z") ∈ lw_all := sorry
theorem q1254 : (Jvm.Cond.soleField "LabelDriver$Batch" "isChecked") ∈ lw_all := sorry
theorem q1255 : (Jvm.Cond.lays "LabelDriver$Batch" "LabelDriver$Batch" "isAgain" "Z") ∈ lw_all := sorry
theorem q1256 : (Jvm.Cond.soleField "LabelDriver$Batch" "isAgain") ∈ lw_all := sorry
theorem q1257 : (Jvm.Cond.superclass "LabelDriver$Batch" "java/lang/Object") ∈ lw_all := sorry
theorem q1287 : (Jvm.Cond.selects "LabelDriver$Batch" ({ cls := "java/lang/Object", name := "getClass", desc := "()Ljava/lang/Class;" } : Jvm.MethodName) ({ cls := "java/lang/Object", name := "getClass", desc := "()Ljava/lang/Class;" } : Jvm.MethodName)) ∈ lw_all := sorry
theorem q1753 : (Jvm.Cond.instanceMethod ({ cls := "LabelDriver$Batch", name := "checkDigit", desc := "(I)I" } : Jvm.MethodName)) ∈ lw_all := sorry
theorem q1754 : (Jvm.Cond.selects "LabelDriver$Batch" ({ cls := "LabelDriver$Batch", name := "checkDigit", desc := "(I)I" } : Jvm.MethodName) ({ cls := "LabelDriver$Batch", name := "checkDigit", desc := "(I)I" } : Jvm.MethodName)) ∈ lw_all := sorry
theorem q1755 : (Jvm.Cond.code ({ cls := "LabelDriver$Batch", name := "checkDigit", desc := "(I)I" } : Jvm.MethodName) prog_2_method_3_code (5 : Nat) (Option.some Jvm.ClassFile.FieldType.int)) ∈ lw_all := sorry
theorem q1756 : (Jvm.Cond.methodLink "LabelDriver$Batch" (32 : Nat) ({ cls := "LabelDriver$Batch", name := "number", desc := "(I)I" } : Jvm.MethodName)) ∈ lw_all := sorry
theorem q2649 : (Jvm.Cond.castable "LabelDriver$Batch" "java/lang/Object") ∈ lw_tbl := sorry
theorem in_X7 : ∀ w ∈ wsX70, w ∈ lw_all := sorry
/-! LabelDriver$Roll -/
set_option maxRecDepth 100000
def RX8 : String := "LabelDriver$Roll"
def TX8 : u_T := fun k => match k with
  | 0 => ("LabelDriver$Roll", "labels", "I", true)
  | 1 => ("LabelDriver$Roll", "length", "I", true)
  | 2 => ("LabelDriver$Roll", "gap", "I", true)
  | 3 => ("LabelDriver$Roll", "labelLight", "I", true)
  | 4 => ("LabelDriver$Roll", "gapLight", "I", true)
  | _ => ("LabelDriver$Roll", "begins", "[I", true)
def tyX8 : Nat → FieldType := fun k => match k with
  | 0 => .int
  | 1 => .int
  | 2 => .int
  | 3 => .int
  | 4 => .int
  | _ => .array .int
abbrev wsX80 : List Cond := u_ws RX8 TX8 6
theorem nmX8 : ∀ a, a < 6 → ∀ b, b < 6 → a ≠ b → (TX8 a).2.1 ≠ (TX8 b).2.1 := sorry
theorem tyX8_ok : ∀ k, k < 6 → parseFieldDescriptor (TX8 k).2.2.1 = some (tyX8 k) := sorry
abbrev cX8_lightAt : ByteArray := prog_8_method_6_code
def yX8_lightAt : MethodName := ⟨RX8, "lightAt", "(I)I"⟩
def dkwX8_lightAt_2 : List UInt8 := [42, 180, 0, 28, 172]
abbrev dktX8_lightAt_2 : List UInt8 := dkwX8_lightAt_2 ++ []
def dkwX8_lightAt_1 : List UInt8 := [27, 42, 180, 0, 9, 28, 4, 96, 46, 42, 180, 0, 22, 100, 162, 0, 10, 42, 180, 0, 25, 167, 0, 7]
abbrev dktX8_lightAt_1 : List UInt8 := dkwX8_lightAt_1 ++ dktX8_lightAt_2
def dkwX8_lightAt_0 : List UInt8 := [42, 27, 182, 0, 48, 61, 28, 2, 160, 0, 16, 27, 156, 0, 10, 42, 180, 0, 25, 167, 0, 4, 3, 172]
abbrev dktX8_lightAt_0 : List UInt8 := dkwX8_lightAt_0 ++ dktX8_lightAt_1
theorem dksX8_lightAt_0 : cX8_lightAt.data.toList.drop 0 = dktX8_lightAt_0 := sorry
theorem dksX8_lightAt_1 : cX8_lightAt.data.toList.drop 24 = dktX8_lightAt_1 := sorry
theorem dksX8_lightAt_2 : cX8_lightAt.data.toList.drop 48 = dktX8_lightAt_2 := sorry
theorem dX8_lightAt_0 : decode cX8_lightAt 0 = .ok (.aload_n 0, 1) := sorry
theorem dX8_lightAt_1 : decode cX8_lightAt 1 = .ok (.iload_n 1, 1) := sorry
theorem dX8_lightAt_2 : decode cX8_lightAt 2 = .ok (.invokevirtual 48, 3) := sorry
theorem dX8_lightAt_5 : decode cX8_lightAt 5 = .ok (.istore_n 2, 1) := sorry
theorem dX8_lightAt_6 : decode cX8_lightAt 6 = .ok (.iload_n 2, 1) := sorry
theorem dX8_lightAt_7 : decode cX8_lightAt 7 = .ok (.iconst (-1), 1) := sorry
theorem dX8_lightAt_8 : decode cX8_lightAt 8 = .ok (.if_icmp .ne 16, 3) := sorry
theorem dX8_lightAt_11 : decode cX8_lightAt 11 = .ok (.iload_n 1, 1) := sorry
theorem dX8_lightAt_12 : decode cX8_lightAt 12 = .ok (.ifCond .ge 10, 3) := sorry
theorem dX8_lightAt_15 : decode cX8_lightAt 15 = .ok (.aload_n 0, 1) := sorry
theorem dX8_lightAt_16 : decode cX8_lightAt 16 = .ok (.getfield 25, 3) := sorry
theorem dX8_lightAt_19 : decode cX8_lightAt 19 = .ok (.goto 4, 3) := sorry
theorem dX8_lightAt_22 : decode cX8_lightAt 22 = .ok (.iconst 0, 1) := sorry
theorem dX8_lightAt_23 : decode cX8_lightAt 23 = .ok (.ireturn, 1) := sorry
theorem dX8_lightAt_24 : decode cX8_lightAt 24 = .ok (.iload_n 1, 1) := sorry
theorem dX8_lightAt_25 : decode cX8_lightAt 25 = .ok (.aload_n 0, 1) := sorry
theorem dX8_lightAt_26 : decode cX8_lightAt 26 = .ok (.getfield 9, 3) := sorry
theorem dX8_lightAt_29 : decode cX8_lightAt 29 = .ok (.iload_n 2, 1) := sorry
theorem dX8_lightAt_30 : decode cX8_lightAt 30 = .ok (.iconst 1, 1) := sorry
theorem dX8_lightAt_31 : decode cX8_lightAt 31 = .ok (.iadd, 1) := sorry
theorem dX8_lightAt_32 : decode cX8_lightAt 32 = .ok (.iaload, 1) := sorry
theorem dX8_lightAt_33 : decode cX8_lightAt 33 = .ok (.aload_n 0, 1) := sorry
theorem dX8_lightAt_34 : decode cX8_lightAt 34 = .ok (.getfield 22, 3) := sorry
theorem dX8_lightAt_37 : decode cX8_lightAt 37 = .ok (.isub, 1) := sorry
theorem dX8_lightAt_38 : decode cX8_lightAt 38 = .ok (.if_icmp .ge 10, 3) := sorry
theorem dX8_lightAt_41 : decode cX8_lightAt 41 = .ok (.aload_n 0, 1) := sorry
theorem dX8_lightAt_42 : decode cX8_lightAt 42 = .ok (.getfield 25, 3) := sorry
theorem dX8_lightAt_45 : decode cX8_lightAt 45 = .ok (.goto 7, 3) := sorry
theorem dX8_lightAt_48 : decode cX8_lightAt 48 = .ok (.aload_n 0, 1) := sorry
theorem dX8_lightAt_49 : decode cX8_lightAt 49 = .ok (.getfield 28, 3) := sorry
theorem dX8_lightAt_52 : decode cX8_lightAt 52 = .ok (.ireturn, 1) := sorry
abbrev cX8_labelAt : ByteArray := prog_8_method_5_code
def yX8_labelAt : MethodName := ⟨RX8, "labelAt", "(I)I"⟩
def dkwX8_labelAt_2 : List UInt8 := [163, 0, 9, 21, 4, 61, 167, 0, 6, 21, 4, 62, 167, 255, 222, 28, 172]
abbrev dktX8_labelAt_2 : List UInt8 := dkwX8_labelAt_2 ++ []
def dkwX8_labelAt_1 : List UInt8 := [62, 29, 28, 100, 4, 164, 0, 33, 28, 29, 96, 5, 108, 54, 4, 42, 180, 0, 9, 21, 4, 46, 27]
abbrev dktX8_labelAt_1 : List UInt8 := dkwX8_labelAt_1 ++ dktX8_labelAt_2
def dkwX8_labelAt_0 : List UInt8 := [27, 133, 9, 42, 182, 0, 40, 4, 100, 133, 184, 0, 44, 154, 0, 5, 2, 172, 3, 61, 42, 180, 0, 15]
abbrev dktX8_labelAt_0 : List UInt8 := dkwX8_labelAt_0 ++ dktX8_labelAt_1
theorem dksX8_labelAt_0 : cX8_labelAt.data.toList.drop 0 = dktX8_labelAt_0 := sorry
theorem dksX8_labelAt_1 : cX8_labelAt.data.toList.drop 24 = dktX8_labelAt_1 := sorry
theorem dksX8_labelAt_2 : cX8_labelAt.data.toList.drop 47 = dktX8_labelAt_2 := sorry
theorem dX8_labelAt_0 : decode cX8_labelAt 0 = .ok (.iload_n 1, 1) := sorry
theorem dX8_labelAt_1 : decode cX8_labelAt 1 = .ok (.i2l, 1) := sorry
theorem dX8_labelAt_2 : decode cX8_labelAt 2 = .ok (.lconst 0, 1) := sorry
theorem dX8_labelAt_3 : decode cX8_labelAt 3 = .ok (.aload_n 0, 1) := sorry
theorem dX8_labelAt_4 : decode cX8_labelAt 4 = .ok (.invokevirtual 40, 3) := sorry
theorem dX8_labelAt_7 : decode cX8_labelAt 7 = .ok (.iconst 1, 1) := sorry
theorem dX8_labelAt_8 : decode cX8_labelAt 8 = .ok (.isub, 1) := sorry
theorem dX8_labelAt_9 : decode cX8_labelAt 9 = .ok (.i2l, 1) := sorry
theorem dX8_labelAt_10 : decode cX8_labelAt 10 = .ok (.invokestatic 44, 3) := sorry
theorem dX8_labelAt_13 : decode cX8_labelAt 13 = .ok (.ifCond .ne 5, 3) := sorry
theorem dX8_labelAt_16 : decode cX8_labelAt 16 = .ok (.iconst (-1), 1) := sorry
theorem dX8_labelAt_17 : decode cX8_labelAt 17 = .ok (.ireturn, 1) := sorry
theorem dX8_labelAt_18 : decode cX8_labelAt 18 = .ok (.iconst 0, 1) := sorry
theorem dX8_labelAt_19 : decode cX8_labelAt 19 = .ok (.istore_n 2, 1) := sorry
theorem dX8_labelAt_20 : decode cX8_labelAt 20 = .ok (.aload_n 0, 1) := sorry
theorem dX8_labelAt_21 : decode cX8_labelAt 21 = .ok (.getfield 15, 3) := sorry
theorem dX8_labelAt_24 : decode cX8_labelAt 24 = .ok (.istore_n 3, 1) := sorry
theorem dX8_labelAt_25 : decode cX8_labelAt 25 = .ok (.iload_n 3, 1) := sorry
theorem dX8_labelAt_26 : decode cX8_labelAt 26 = .ok (.iload_n 2, 1) := sorry
theorem dX8_labelAt_27 : decode cX8_labelAt 27 = .ok (.isub, 1) := sorry
theorem dX8_labelAt_28 : decode cX8_labelAt 28 = .ok (.iconst 1, 1) := sorry
theorem dX8_labelAt_29 : decode cX8_labelAt 29 = .ok (.if_icmp .le 33, 3) := sorry
theorem dX8_labelAt_32 : decode cX8_labelAt 32 = .ok (.iload_n 2, 1) := sorry
theorem dX8_labelAt_33 : decode cX8_labelAt 33 = .ok (.iload_n 3, 1) := sorry
theorem dX8_labelAt_34 : decode cX8_labelAt 34 = .ok (.iadd, 1) := sorry
theorem dX8_labelAt_35 : decode cX8_labelAt 35 = .ok (.iconst 2, 1) := sorry
theorem dX8_labelAt_36 : decode cX8_labelAt 36 = .ok (.idiv, 1) := sorry
theorem dX8_labelAt_37 : decode cX8_labelAt 37 = .ok (.istore 4, 2) := sorry
theorem dX8_labelAt_39 : decode cX8_labelAt 39 = .ok (.aload_n 0, 1) := sorry
theorem dX8_labelAt_40 : decode cX8_labelAt 40 = .ok (.getfield 9, 3) := sorry
theorem dX8_labelAt_43 : decode cX8_labelAt 43 = .ok (.iload 4, 2) := sorry
theorem dX8_labelAt_45 : decode cX8_labelAt 45 = .ok (.iaload, 1) := sorry
theorem dX8_labelAt_46 : decode cX8_labelAt 46 = .ok (.iload_n 1, 1) := sorry
theorem dX8_labelAt_47 : decode cX8_labelAt 47 = .ok (.if_icmp .gt 9, 3) := sorry
theorem dX8_labelAt_50 : decode cX8_labelAt 50 = .ok (.iload 4, 2) := sorry
theorem dX8_labelAt_52 : decode cX8_labelAt 52 = .ok (.istore_n 2, 1) := sorry
theorem dX8_labelAt_53 : decode cX8_labelAt 53 = .ok (.goto 6, 3) := sorry
theorem dX8_labelAt_56 : decode cX8_labelAt 56 = .ok (.iload 4, 2) := sorry
theorem dX8_labelAt_58 : decode cX8_labelAt 58 = .ok (.istore_n 3, 1) := sorry
theorem dX8_labelAt_59 : decode cX8_labelAt 59 = .ok (.goto (-34), 3) := sorry
theorem dX8_labelAt_62 : decode cX8_labelAt 62 = .ok (.iload_n 2, 1) := sorry
theorem dX8_labelAt_63 : decode cX8_labelAt 63 = .ok (.ireturn, 1) := sorry
abbrev cX8_end : ByteArray := prog_8_method_3_code
def yX8_end : MethodName := ⟨RX8, "end", "()I"⟩
def dkwX8_end_0 : List UInt8 := [42, 180, 0, 9, 42, 180, 0, 15, 46, 172]
abbrev dktX8_end_0 : List UInt8 := dkwX8_end_0 ++ []
theorem dksX8_end_0 : cX8_end.data.toList.drop 0 = dktX8_end_0 := sorry
theorem dX8_end_0 : decode cX8_end 0 = .ok (.aload_n 0, 1) := sorry
theorem dX8_end_1 : decode cX8_end 1 = .ok (.getfield 9, 3) := sorry
theorem dX8_end_4 : decode cX8_end 4 = .ok (.aload_n 0, 1) := sorry
theorem dX8_end_5 : decode cX8_end 5 = .ok (.getfield 15, 3) := sorry
theorem dX8_end_8 : decode cX8_end 8 = .ok (.iaload, 1) := sorry
theorem dX8_end_9 : decode cX8_end 9 = .ok (.ireturn, 1) := sorry
abbrev cX8_init : ByteArray := prog_8_method_2_code
def yX8_init : MethodName := ⟨RX8, "<init>", "(LLabelDriver$Roll;)V"⟩
def dkwX8_init_1 : List UInt8 := [43, 180, 0, 9, 3, 42, 180, 0, 9, 3, 42, 180, 0, 15, 4, 96, 184, 0, 34, 177]
abbrev dktX8_init_1 : List UInt8 := dkwX8_init_1 ++ []
def dkwX8_init_0 : List UInt8 := [42, 43, 180, 0, 15, 43, 180, 0, 19, 43, 180, 0, 22, 43, 180, 0, 25, 43, 180, 0, 28, 183, 0, 31]
abbrev dktX8_init_0 : List UInt8 := dkwX8_init_0 ++ dktX8_init_1
theorem dksX8_init_0 : cX8_init.data.toList.drop 0 = dktX8_init_0 := sorry
theorem dksX8_init_1 : cX8_init.data.toList.drop 24 = dktX8_init_1 := sorry
theorem dX8_init_0 : decode cX8_init 0 = .ok (.aload_n 0, 1) := sorry
theorem dX8_init_1 : decode cX8_init 1 = .ok (.aload_n 1, 1) := sorry
theorem dX8_init_2 : decode cX8_init 2 = .ok (.getfield 15, 3) := sorry
theorem dX8_init_5 : decode cX8_init 5 = .ok (.aload_n 1, 1) := sorry
theorem dX8_init_6 : decode cX8_init 6 = .ok (.getfield 19, 3) := sorry
theorem dX8_init_9 : decode cX8_init 9 = .ok (.aload_n 1, 1) := sorry
theorem dX8_init_10 : decode cX8_init 10 = .ok (.getfield 22, 3) := sorry
theorem dX8_init_13 : decode cX8_init 13 = .ok (.aload_n 1, 1) := sorry
theorem dX8_init_14 : decode cX8_init 14 = .ok (.getfield 25, 3) := sorry
theorem dX8_init_17 : decode cX8_init 17 = .ok (.aload_n 1, 1) := sorry
theorem dX8_init_18 : decode cX8_init 18 = .ok (.getfield 28, 3) := sorry
theorem dX8_init_21 : decode cX8_init 21 = .ok (.invokespecial 31, 3) := sorry
theorem dX8_init_24 : decode cX8_init 24 = .ok (.aload_n 1, 1) := sorry
theorem dX8_init_25 : decode cX8_init 25 = .ok (.getfield 9, 3) := sorry
theorem dX8_init_28 : decode cX8_init 28 = .ok (.iconst 0, 1) := sorry
theorem dX8_init_29 : decode cX8_init 29 = .ok (.aload_n 0, 1) := sorry
theorem dX8_init_30 : decode cX8_init 30 = .ok (.getfield 9, 3) := sorry
theorem dX8_init_33 : decode cX8_init 33 = .ok (.iconst 0, 1) := sorry
theorem dX8_init_34 : decode cX8_init 34 = .ok (.aload_n 0, 1) := sorry
theorem dX8_init_35 : decode cX8_init 35 = .ok (.getfield 15, 3) := sorry
theorem dX8_init_38 : decode cX8_init 38 = .ok (.iconst 1, 1) := sorry
theorem dX8_init_39 : decode cX8_init 39 = .ok (.iadd, 1) := sorry
theorem dX8_init_40 : decode cX8_init 40 = .ok (.invokestatic 34, 3) := sorry
theorem dX8_init_43 : decode cX8_init 43 = .ok (.return_, 1) := sorry
abbrev cX8_init_2 : ByteArray := prog_8_method_1_code
def yX8_init_2 : MethodName := ⟨RX8, "<init>", "(IIIII)V"⟩
def dkwX8_init_2_2 : List UInt8 := [42, 180, 0, 9, 21, 6, 21, 6, 28, 29, 96, 104, 79, 132, 6, 1, 167, 255, 234, 177]
abbrev dktX8_init_2_2 : List UInt8 := dkwX8_init_2_2 ++ []
def dkwX8_init_2_1 : List UInt8 := [181, 0, 22, 42, 21, 4, 181, 0, 25, 42, 21, 5, 181, 0, 28, 3, 54, 6, 21, 6, 27, 163, 0, 22]
abbrev dktX8_init_2_1 : List UInt8 := dkwX8_init_2_1 ++ dktX8_init_2_2
def dkwX8_init_2_0 : List UInt8 := [42, 183, 0, 3, 42, 16, 100, 188, 10, 181, 0, 9, 42, 27, 181, 0, 15, 42, 28, 181, 0, 19, 42, 29]
abbrev dktX8_init_2_0 : List UInt8 := dkwX8_init_2_0 ++ dktX8_init_2_1
theorem dksX8_init_2_0 : cX8_init_2.data.toList.drop 0 = dktX8_init_2_0 := sorry
theorem dksX8_init_2_1 : cX8_init_2.data.toList.drop 24 = dktX8_init_2_1 := sorry
theorem dksX8_init_2_2 : cX8_init_2.data.toList.drop 48 = dktX8_init_2_2 := sorry
theorem dX8_init_2_0 : decode cX8_init_2 0 = .ok (.aload_n 0, 1) := sorry
theorem dX8_init_2_1 : decode cX8_init_2 1 = .ok (.invokespecial 3, 3) := sorry
theorem dX8_init_2_4 : decode cX8_init_2 4 = .ok (.aload_n 0, 1) := sorry
theorem dX8_init_2_5 : decode cX8_init_2 5 = .ok (.bipush 100, 2) := sorry
theorem dX8_init_2_7 : decode cX8_init_2 7 = .ok (.newarray .int, 2) := sorry
theorem dX8_init_2_9 : decode cX8_init_2 9 = .ok (.putfield 9, 3) := sorry
theorem dX8_init_2_12 : decode cX8_init_2 12 = .ok (.aload_n 0, 1) := sorry
theorem dX8_init_2_13 : decode cX8_init_2 13 = .ok (.iload_n 1, 1) := sorry
theorem dX8_init_2_14 : decode cX8_init_2 14 = .ok (.putfield 15, 3) := sorry
theorem dX8_init_2_17 : decode cX8_init_2 17 = .ok (.aload_n 0, 1) := sorry
theorem dX8_init_2_18 : decode cX8_init_2 18 = .ok (.iload_n 2, 1) := sorry
theorem dX8_init_2_19 : decode cX8_init_2 19 = .ok (.putfield 19, 3) := sorry
theorem dX8_init_2_22 : decode cX8_init_2 22 = .ok (.aload_n 0, 1) := sorry
theorem dX8_init_2_23 : decode cX8_init_2 23 = .ok (.iload_n 3, 1) := sorry
theorem dX8_init_2_24 : decode cX8_init_2 24 = .ok (.putfield 22, 3) := sorry
theorem dX8_init_2_27 : decode cX8_init_2 27 = .ok (.aload_n 0, 1) := sorry
theorem dX8_init_2_28 : decode cX8_init_2 28 = .ok (.iload 4, 2) := sorry
theorem dX8_init_2_30 : decode cX8_init_2 30 = .ok (.putfield 25, 3) := sorry
theorem dX8_init_2_33 : decode cX8_init_2 33 = .ok (.aload_n 0, 1) := sorry
theorem dX8_init_2_34 : decode cX8_init_2 34 = .ok (.iload 5, 2) := sorry
theorem dX8_init_2_36 : decode cX8_init_2 36 = .ok (.putfield 28, 3) := sorry
theorem dX8_init_2_39 : decode cX8_init_2 39 = .ok (.iconst 0, 1) := sorry
theorem dX8_init_2_40 : decode cX8_init_2 40 = .ok (.istore 6, 2) := sorry
theorem dX8_init_2_42 : decode cX8_init_2 42 = .ok (.iload 6, 2) := sorry
theorem dX8_init_2_44 : decode cX8_init_2 44 = .ok (.iload_n 1, 1) := sorry
theorem dX8_init_2_45 : decode cX8_init_2 45 = .ok (.if_icmp .gt 22, 3) := sorry
theorem dX8_init_2_48 : decode cX8_init_2 48 = .ok (.aload_n 0, 1) := sorry
theorem dX8_init_2_49 : decode cX8_init_2 49 = .ok (.getfield 9, 3) := sorry
theorem dX8_init_2_52 : decode cX8_init_2 52 = .ok (.iload 6, 2) := sorry
theorem dX8_init_2_54 : decode cX8_init_2 54 = .ok (.iload 6, 2) := sorry
theorem dX8_init_2_56 : decode cX8_init_2 56 = .ok (.iload_n 2, 1) := sorry
theorem dX8_init_2_57 : decode cX8_init_2 57 = .ok (.iload_n 3, 1) := sorry
theorem dX8_init_2_58 : decode cX8_init_2 58 = .ok (.iadd, 1) := sorry
theorem dX8_init_2_59 : decode cX8_init_2 59 = .ok (.imul, 1) := sorry
theorem dX8_init_2_60 : decode cX8_init_2 60 = .ok (.iastore, 1) := sorry
theorem dX8_init_2_61 : decode cX8_init_2 61 = .ok (.iinc 6 1, 3) := sorry
theorem dX8_init_2_64 : decode cX8_init_2 64 = .ok (.goto (-22), 3) := sorry
theorem dX8_init_2_67 : decode cX8_init_2 67 = .ok (.return_, 1) := sorry
abbrev cX8_stretch : ByteArray := prog_8_method_4_code
def yX8_stretch : MethodName := ⟨RX8, "stretch", "(II)V"⟩
def dkwX8_stretch_2 : List UInt8 := [92, 46, 29, 96, 79, 132, 4, 1, 167, 255, 233, 177]
abbrev dktX8_stretch_2 : List UInt8 := dkwX8_stretch_2 ++ []
def dkwX8_stretch_1 : List UInt8 := [46, 100, 100, 62, 27, 4, 96, 54, 4, 21, 4, 42, 180, 0, 15, 163, 0, 20, 42, 180, 0, 9, 21, 4]
abbrev dktX8_stretch_1 : List UInt8 := dkwX8_stretch_1 ++ dktX8_stretch_2
def dkwX8_stretch_0 : List UInt8 := [42, 180, 0, 19, 28, 96, 42, 180, 0, 22, 96, 42, 180, 0, 9, 27, 4, 96, 46, 42, 180, 0, 9, 27]
abbrev dktX8_stretch_0 : List UInt8 := dkwX8_stretch_0 ++ dktX8_stretch_1
theorem dksX8_stretch_0 : cX8_stretch.data.toList.drop 0 = dktX8_stretch_0 := sorry
theorem dksX8_stretch_1 : cX8_stretch.data.toList.drop 24 = dktX8_stretch_1 := sorry
theorem dksX8_stretch_2 : cX8_stretch.data.toList.drop 48 = dktX8_stretch_2 := sorry
theorem dX8_stretch_0 : decode cX8_stretch 0 = .ok (.aload_n 0, 1) := sorry
theorem dX8_stretch_1 : decode cX8_stretch 1 = .ok (.getfield 19, 3) := sorry
theorem dX8_stretch_4 : decode cX8_stretch 4 = .ok (.iload_n 2, 1) := sorry
theorem dX8_stretch_5 : decode cX8_stretch 5 = .ok (.iadd, 1) := sorry
theorem dX8_stretch_6 : decode cX8_stretch 6 = .ok (.aload_n 0, 1) := sorry
theorem dX8_stretch_7 : decode cX8_stretch 7 = .ok (.getfield 22, 3) := sorry
theorem dX8_stretch_10 : decode cX8_stretch 10 = .ok (.iadd, 1) := sorry
theorem dX8_stretch_11 : decode cX8_stretch 11 = .ok (.aload_n 0, 1) := sorry
theorem dX8_stretch_12 : decode cX8_stretch 12 = .ok (.getfield 9, 3) := sorry
theorem dX8_stretch_15 : decode cX8_stretch 15 = .ok (.iload_n 1, 1) := sorry
theorem dX8_stretch_16 : decode cX8_stretch 16 = .ok (.iconst 1, 1) := sorry
theorem dX8_stretch_17 : decode cX8_stretch 17 = .ok (.iadd, 1) := sorry
theorem dX8_stretch_18 : decode cX8_stretch 18 = .ok (.iaload, 1) := sorry
theorem dX8_stretch_19 : decode cX8_stretch 19 = .ok (.aload_n 0, 1) := sorry
theorem dX8_stretch_20 : decode cX8_stretch 20 = .ok (.getfield 9, 3) := sorry
theorem dX8_stretch_23 : decode cX8_stretch 23 = .ok (.iload_n 1, 1) := sorry
theorem dX8_stretch_24 : decode cX8_stretch 24 = .ok (.iaload, 1) := sorry
theorem dX8_stretch_25 : decode cX8_stretch 25 = .ok (.isub, 1) := sorry
theorem dX8_stretch_26 : decode cX8_stretch 26 = .ok (.isub, 1) := sorry
theorem dX8_stretch_27 : decode cX8_stretch 27 = .ok (.istore_n 3, 1) := sorry
theorem dX8_stretch_28 : decode cX8_stretch 28 = .ok (.iload_n 1, 1) := sorry
theorem dX8_stretch_29 : decode cX8_stretch 29 = .ok (.iconst 1, 1) := sorry
theorem dX8_stretch_30 : decode cX8_stretch 30 = .ok (.iadd, 1) := sorry
theorem dX8_stretch_31 : decode cX8_stretch 31 = .ok (.istore 4, 2) := sorry
theorem dX8_stretch_33 : decode cX8_stretch 33 = .ok (.iload 4, 2) := sorry
theorem dX8_stretch_35 : decode cX8_stretch 35 = .ok (.aload_n 0, 1) := sorry
theorem dX8_stretch_36 : decode cX8_stretch 36 = .ok (.getfield 15, 3) := sorry
theorem dX8_stretch_39 : decode cX8_stretch 39 = .ok (.if_icmp .gt 20, 3) := sorry
theorem dX8_stretch_42 : decode cX8_stretch 42 = .ok (.aload_n 0, 1) := sorry
theorem dX8_stretch_43 : decode cX8_stretch 43 = .ok (.getfield 9, 3) := sorry
theorem dX8_stretch_46 : decode cX8_stretch 46 = .ok (.iload 4, 2) := sorry
theorem dX8_stretch_48 : decode cX8_stretch 48 = .ok (.dup2, 1) := sorry
theorem dX8_stretch_49 : decode cX8_stretch 49 = .ok (.iaload, 1) := sorry
theorem dX8_stretch_50 : decode cX8_stretch 50 = .ok (.iload_n 3, 1) := sorry
theorem dX8_stretch_51 : decode cX8_stretch 51 = .ok (.iadd, 1) := sorry
theorem dX8_stretch_52 : decode cX8_stretch 52 = .ok (.iastore, 1) := sorry
theorem dX8_stretch_53 : decode cX8_stretch 53 = .ok (.iinc 4 1, 3) := sorry
theorem dX8_stretch_56 : decode cX8_stretch 56 = .ok (.goto (-23), 3) := sorry
theorem dX8_stretch_59 : decode cX8_stretch 59 = .ok (.return_, 1) := sorry
theorem q113 : (Jvm.Cond.initialized "LabelDriver$Roll") ∈ lw_all := sorry
theorem q823 : (Jvm.Cond.instanceMethod ({ cls := "LabelDriver$Roll", name := "lightAt", desc := "(I)I" } : Jvm.MethodName)) ∈ lw_all := sorry
theorem q824 : (Jvm.Cond.selects "LabelDriver$Roll" ({ cls := "LabelDriver$Roll", name := "lightAt", desc := "(I)I" } : Jvm.MethodName) ({ cls := "LabelDriver$Roll", name := "lightAt", desc := "(I)I" } : Jvm.MethodName)) ∈ lw_all := sorry
theorem q825 : (Jvm.Cond.code ({ cls := "LabelDriver$Roll", name := "lightAt", desc := "(I)I" } : Jvm.MethodName) prog_8_method_6_code (3 : Nat) (Option.some Jvm.ClassFile.FieldType.int)) ∈ lw_all := sorry
theorem q826 : (Jvm.Cond.methodLink "LabelDriver$Roll" (48 : Nat) ({ cls := "LabelDriver$Roll", name := "labelAt", desc := "(I)I" } : Jvm.MethodName)) ∈ lw_all := sorry
theorem q827 : (Jvm.Cond.instanceMethod ({ cls := "LabelDriver$Roll", name := "labelAt", desc := "(I)I" } : Jvm.MethodName)) ∈ lw_all := sorry
theorem q828 : (Jvm.Cond.selects "LabelDriver$Roll" ({ cls := "LabelDriver$Roll", name := "labelAt", desc := "(I)I" } : Jvm.MethodName) ({ cls := "LabelDriver$Roll", name := "labelAt", desc := "(I)I" } : Jvm.MethodName)) ∈ lw_all := sorry
theorem q829 : (Jvm.Cond.code ({ cls := "LabelDriver$Roll", name := "labelAt", desc := "(I)I" } : Jvm.MethodName) prog_8_method_5_code (5 : Nat) (Option.some Jvm.ClassFile.FieldType.int)) ∈ lw_all := sorry
theorem q830 : (Jvm.Cond.methodLink "LabelDriver$Roll" (40 : Nat) ({ cls := "LabelDriver$Roll", name := "end", desc := "()I" } : Jvm.MethodName)) ∈ lw_all := sorry
theorem q831 : (Jvm.Cond.instanceMethod ({ cls := "LabelDriver$Roll", name := "end", desc := "()I" } : Jvm.MethodName)) ∈ lw_all := sorry
theorem q832 : (Jvm.Cond.selects "LabelDriver$Roll" ({ cls := "LabelDriver$Roll", name := "end", desc := "()I" } : Jvm.MethodName) ({ cls := "LabelDriver$Roll", name := "end", desc := "()I" } : Jvm.MethodName)) ∈ lw_all := sorry
theorem q833 : (Jvm.Cond.code ({ cls := "LabelDriver$Roll", name := "end", desc := "()I" } : Jvm.MethodName) prog_8_method_3_code (1 : Nat) (Option.some Jvm.ClassFile.FieldType.int)) ∈ lw_all := sorry
theorem q834 : (Jvm.Cond.methodLinkNest "LabelDriver$Roll" (44 : Nat) ({ cls := "LabelDriver", name := "in", desc := "(JJJ)Z" } : Jvm.MethodName) "LabelDriver") ∈ lw_tbl := sorry
theorem q1293 : (Jvm.Cond.selects "LabelDriver$Roll" ({ cls := "java/lang/Object", name := "getClass", desc := "()Ljava/lang/Class;" } : Jvm.MethodName) ({ cls := "java/lang/Object", name := "getClass", desc := "()Ljava/lang/Class;" } : Jvm.MethodName)) ∈ lw_all := sorry
theorem q1365 : (Jvm.Cond.instantiable "LabelDriver$Roll" (6 : Nat)) ∈ lw_all := sorry
theorem q1367 : (Jvm.Cond.instanceMethod ({ cls := "LabelDriver$Roll", name := "<init>", desc := "(LLabelDriver$Roll;)V" } : Jvm.MethodName)) ∈ lw_all := sorry
theorem q1368 : (Jvm.Cond.code ({ cls := "LabelDriver$Roll", name := "<init>", desc := "(LLabelDriver$Roll;)V" } : Jvm.MethodName) prog_8_method_2_code (2 : Nat) (Option.none : Option Jvm.ClassFile.FieldType)) ∈ lw_all := sorry
theorem q1369 : (Jvm.Cond.methodLink "LabelDriver$Roll" (31 : Nat) ({ cls := "LabelDriver$Roll", name := "<init>", desc := "(IIIII)V" } : Jvm.MethodName)) ∈ lw_all := sorry
theorem q1370 : (Jvm.Cond.instanceMethod ({ cls := "LabelDriver$Roll", name := "<init>", desc := "(IIIII)V" } : Jvm.MethodName)) ∈ lw_all := sorry
theorem q1371 : (Jvm.Cond.code ({ cls := "LabelDriver$Roll", name := "<init>", desc := "(IIIII)V" } : Jvm.MethodName) prog_8_method_1_code (7 : Nat) (Option.none : Option Jvm.ClassFile.FieldType)) ∈ lw_all := sorry
theorem q1372 : (Jvm.Cond.methodLink "LabelDriver$Roll" (3 : Nat) ({ cls := "java/lang/Object", name := "<init>", desc := "()V" } : Jvm.MethodName)) ∈ lw_all := sorry
theorem q1373 : (Jvm.Cond.fieldLink "LabelDriver$Roll" (15 : Nat) "LabelDriver$Roll" "labels" "I") ∈ lw_all := sorry
theorem q1375 : (Jvm.Cond.fieldLink "LabelDriver$Roll" (19 : Nat) "LabelDriver$Roll" "length" "I") ∈ lw_all := sorry
theorem q1377 : (Jvm.Cond.fieldLink "LabelDriver$Roll" (22 : Nat) "LabelDriver$Roll" "gap" "I") ∈ lw_all := sorry
theorem q1378 : (Jvm.Cond.fieldLink "LabelDriver$Roll" (25 : Nat) "LabelDriver$Roll" "labelLight" "I") ∈ lw_all := sorry
theorem q1379 : (Jvm.Cond.fieldLink "LabelDriver$Roll" (28 : Nat) "LabelDriver$Roll" "gapLight" "I") ∈ lw_all := sorry
theorem q1380 : (Jvm.Cond.fieldLink "LabelDriver$Roll" (9 : Nat) "LabelDriver$Roll" "begins" "[I") ∈ lw_all := sorry
theorem q1382 : (Jvm.Cond.laysFinal "LabelDriver$Roll" "LabelDriver$Roll" "labels" "I") ∈ lw_all := sorry
theorem q1383 : (Jvm.Cond.soleField "LabelDriver$Roll" "labels") ∈ lw_all := sorry
theorem q1384 : (Jvm.Cond.laysFinal "LabelDriver$Roll" "LabelDriver$Roll" "length" "I") ∈ lw_all := sorry
theorem q1385 : (Jvm.Cond.soleField "LabelDriver$Roll" "length") ∈ lw_all := sorry
theorem q1386 : (Jvm.Cond.laysFinal "LabelDriver$Roll" "LabelDriver$Roll" "gap" "I") ∈ lw_all := sorry
theorem q1387 : (Jvm.Cond.soleField "LabelDriver$Roll" "gap") ∈ lw_all := sorry
theorem q1388 : (Jvm.Cond.laysFinal "LabelDriver$Roll" "LabelDriver$Roll" "labelLight" "I") ∈ lw_all := sorry
theorem q1389 : (Jvm.Cond.soleField "LabelDriver$Roll" "labelLight") ∈ lw_all := sorry
theorem q1390 : (Jvm.Cond.laysFinal "LabelDriver$Roll" "LabelDriver$Roll" "gapLight" "I") ∈ lw_all := sorry
theorem q1391 : (Jvm.Cond.soleField "LabelDriver$Roll" "gapLight") ∈ lw_all := sorry
theorem q1392 : (Jvm.Cond.laysFinal "LabelDriver$Roll" "LabelDriver$Roll" "begins" "[I") ∈ lw_all := sorry
theorem q1393 : (Jvm.Cond.soleField "LabelDriver$Roll" "begins") ∈ lw_all := sorry
theorem q1394 : (Jvm.Cond.superclass "LabelDriver$Roll" "java/lang/Object") ∈ lw_all := sorry
theorem q1395 : (Jvm.Cond.methodLink "LabelDriver$Roll" (34 : Nat) ({ cls := "java/lang/System", name := "arraycopy", desc := "(Ljava/lang/Object;ILjava/lang/Object;II)V" } : Jvm.MethodName)) ∈ lw_all := sorry
theorem q1478 : (Jvm.Cond.instanceMethod ({ cls := "LabelDriver$Roll", name := "stretch", desc := "(II)V" } : Jvm.MethodName)) ∈ lw_all := sorry
theorem q1479 : (Jvm.Cond.selects "LabelDriver$Roll" ({ cls := "LabelDriver$Roll", name := "stretch", desc := "(II)V" } : Jvm.MethodName) ({ cls := "LabelDriver$Roll", name := "stretch", desc := "(II)V" } : Jvm.MethodName)) ∈ lw_all := sorry
theorem q1480 : (Jvm.Cond.code ({ cls := "LabelDriver$Roll", name := "stretch", desc := "(II)V" } : Jvm.MethodName) prog_8_method_4_code (5 : Nat) (Option.none : Option Jvm.ClassFile.FieldType)) ∈ lw_all := sorry
theorem q2651 : (Jvm.Cond.castable "LabelDriver$Roll" "java/lang/Object") ∈ lw_tbl := sorry
theorem in_X8 : ∀ w ∈ wsX80, w ∈ lw_all := sorry
/-! LabelDriver$Trouble -/
set_option maxRecDepth 100000
def RX9 : String := "LabelDriver$Trouble"
abbrev cX9_init : ByteArray := prog_13_method_1_code
def yX9_init : MethodName := ⟨RX9, "<init>", "(ILjava/lang/Exception;)V"⟩
def dkwX9_init_0 : List UInt8 := [42, 1, 44, 3, 3, 183, 0, 1, 42, 27, 181, 0, 7, 177]
abbrev dktX9_init_0 : List UInt8 := dkwX9_init_0 ++ []
theorem dksX9_init_0 : cX9_init.data.toList.drop 0 = dktX9_init_0 := sorry
theorem dX9_init_0 : decode cX9_init 0 = .ok (.aload_n 0, 1) := sorry
theorem dX9_init_1 : decode cX9_init 1 = .ok (.aconst_null, 1) := sorry
theorem dX9_init_2 : decode cX9_init 2 = .ok (.aload_n 2, 1) := sorry
theorem dX9_init_3 : decode cX9_init 3 = .ok (.iconst 0, 1) := sorry
theorem dX9_init_4 : decode cX9_init 4 = .ok (.iconst 0, 1) := sorry
theorem dX9_init_5 : decode cX9_init 5 = .ok (.invokespecial 1, 3) := sorry
theorem dX9_init_8 : decode cX9_init 8 = .ok (.aload_n 0, 1) := sorry
theorem dX9_init_9 : decode cX9_init 9 = .ok (.iload_n 1, 1) := sorry
theorem dX9_init_10 : decode cX9_init 10 = .ok (.putfield 7, 3) := sorry
theorem dX9_init_13 : decode cX9_init 13 = .ok (.return_, 1) := sorry
theorem q119 : (Jvm.Cond.initialized "LabelDriver$Trouble") ∈ lw_all := sorry
theorem q1587 : (Jvm.Cond.instanceMethod ({ cls := "LabelDriver$Trouble", name := "<init>", desc := "(ILjava/lang/Exception;)V" } : Jvm.MethodName)) ∈ lw_all := sorry
theorem q1588 : (Jvm.Cond.code ({ cls := "LabelDriver$Trouble", name := "<init>", desc := "(ILjava/lang/Exception;)V" } : Jvm.MethodName) prog_13_method_1_code (3 : Nat) (Option.none : Option Jvm.ClassFile.FieldType)) ∈ lw_all := sorry
theorem q1589 : (Jvm.Cond.methodLink "LabelDriver$Trouble" (1 : Nat) ({ cls := "java/lang/Exception", name := "<init>", desc := "(Ljava/lang/String;Ljava/lang/Throwable;ZZ)V" } : Jvm.MethodName)) ∈ lw_all := sorry
theorem q1590 : (Jvm.Cond.fieldLink "LabelDriver$Trouble" (7 : Nat) "LabelDriver$Trouble" "code" "I") ∈ lw_all := sorry
theorem q1593 : (Jvm.Cond.soleField "LabelDriver$Trouble" "code") ∈ lw_all := sorry
theorem q1862 : (Jvm.Cond.sameMethod "LabelDriver$Trouble" "java/lang/Throwable" "getCause" "()Ljava/lang/Throwable;") ∈ lw_all := sorry
/-! LabelDriver$WebOut -/
set_option maxRecDepth 100000
def RX10 : String := "LabelDriver$WebOut"
def TX10 : u_T := fun k => match k with
  | 0 => ("LabelDriver$Trouble", "code", "I", true)
  | 1 => ("java/lang/Throwable", "cause", "Ljava/lang/Throwable;", false)
  | 2 => ("java/lang/Throwable", "stackTrace", "[Ljava/lang/StackTraceElement;", false)
  | 3 => ("java/lang/Throwable", "suppressedExceptions", "Ljava/util/List;", false)
  | 4 => ("java/lang/Throwable", "detailMessage", "Ljava/lang/String;", false)
  | 5 => ("java/lang/Throwable", "backtrace", "Ljava/lang/Object;", false)
  | _ => ("java/lang/Throwable", "depth", "I", false)
def tyX10 : Nat → FieldType := fun k => match k with
  | 0 => .int
  | 1 => .object "java/lang/Throwable"
  | 2 => .array (.object "java/lang/StackTraceElement")
  | 3 => .object "java/util/List"
  | 4 => .object "java/lang/String"
  | 5 => .object "java/lang/Object"
  | _ => .int
abbrev wsX100 : List Cond := u_ws RX10 TX10 7
theorem nmX10 : ∀ a, a < 7 → ∀ b, b < 7 → a ≠ b → (TX10 a).2.1 ≠ (TX10 b).2.1 := sorry
theorem tyX10_ok : ∀ k, k < 7 → parseFieldDescriptor (TX10 k).2.2.1 = some (tyX10 k) := sorry
abbrev cX10_init : ByteArray := prog_14_method_1_code
def yX10_init : MethodName := ⟨RX10, "<init>", "()V"⟩
def dkwX10_init_0 : List UInt8 := [42, 5, 1, 183, 0, 3, 177]
abbrev dktX10_init_0 : List UInt8 := dkwX10_init_0 ++ []
theorem dksX10_init_0 : cX10_init.data.toList.drop 0 = dktX10_init_0 := sorry
theorem dX10_init_0 : decode cX10_init 0 = .ok (.aload_n 0, 1) := sorry
theorem dX10_init_1 : decode cX10_init 1 = .ok (.iconst 2, 1) := sorry
theorem dX10_init_2 : decode cX10_init 2 = .ok (.aconst_null, 1) := sorry
theorem dX10_init_3 : decode cX10_init 3 = .ok (.invokespecial 3, 3) := sorry
theorem dX10_init_6 : decode cX10_init 6 = .ok (.return_, 1) := sorry
theorem q120 : (Jvm.Cond.initialized "LabelDriver$WebOut") ∈ lw_all := sorry
theorem q214 : (Jvm.Cond.selects "LabelDriver$WebOut" ({ cls := "java/lang/Throwable", name := "fillInStackTrace", desc := "()Ljava/lang/Throwable;" } : Jvm.MethodName) ({ cls := "java/lang/Throwable", name := "fillInStackTrace", desc := "()Ljava/lang/Throwable;" } : Jvm.MethodName)) ∈ lw_all := sorry
theorem q1298 : (Jvm.Cond.selects "LabelDriver$WebOut" ({ cls := "java/lang/Object", name := "getClass", desc := "()Ljava/lang/Class;" } : Jvm.MethodName) ({ cls := "java/lang/Object", name := "getClass", desc := "()Ljava/lang/Class;" } : Jvm.MethodName)) ∈ lw_all := sorry
theorem q1575 : (Jvm.Cond.instantiable "LabelDriver$WebOut" (7 : Nat)) ∈ lw_all := sorry
theorem q1576 : (Jvm.Cond.castable "LabelDriver$WebOut" "LabelDriver$WebOut") ∈ lw_tbl := sorry
theorem q1577 : (Jvm.Cond.selects "LabelDriver$WebOut" ({ cls := "java/lang/Throwable", name := "fillInStackTrace", desc := "(I)Ljava/lang/Throwable;" } : Jvm.MethodName) ({ cls := "java/lang/Throwable", name := "fillInStackTrace", desc := "(I)Ljava/lang/Throwable;" } : Jvm.MethodName)) ∈ lw_all := sorry
theorem q1578 : (Jvm.Cond.lays "LabelDriver$WebOut" "java/lang/Throwable" "cause" "Ljava/lang/Throwable;") ∈ lw_all := sorry
theorem q1579 : (Jvm.Cond.lays "LabelDriver$WebOut" "java/lang/Throwable" "stackTrace" "[Ljava/lang/StackTraceElement;") ∈ lw_all := sorry
theorem q1580 : (Jvm.Cond.lays "LabelDriver$WebOut" "java/lang/Throwable" "suppressedExceptions" "Ljava/util/List;") ∈ lw_all := sorry
theorem q1581 : (Jvm.Cond.lays "LabelDriver$WebOut" "java/lang/Throwable" "detailMessage" "Ljava/lang/String;") ∈ lw_all := sorry
theorem q1582 : (Jvm.Cond.lays "LabelDriver$WebOut" "java/lang/Throwable" "backtrace" "Ljava/lang/Object;") ∈ lw_all := sorry
theorem q1584 : (Jvm.Cond.instanceMethod ({ cls := "LabelDriver$WebOut", name := "<init>", desc := "()V" } : Jvm.MethodName)) ∈ lw_all := sorry
theorem q1585 : (Jvm.Cond.code ({ cls := "LabelDriver$WebOut", name := "<init>", desc := "()V" } : Jvm.MethodName) prog_14_method_1_code (1 : Nat) (Option.none : Option Jvm.ClassFile.FieldType)) ∈ lw_all := sorry
theorem q1586 : (Jvm.Cond.methodLink "LabelDriver$WebOut" (3 : Nat) ({ cls := "LabelDriver$Trouble", name := "<init>", desc := "(ILjava/lang/Exception;)V" } : Jvm.MethodName)) ∈ lw_all := sorry
theorem q1592 : (Jvm.Cond.laysFinal "LabelDriver$WebOut" "LabelDriver$Trouble" "code" "I") ∈ lw_all := sorry
theorem q1594 : (Jvm.Cond.lays "LabelDriver$WebOut" "java/lang/Throwable" "depth" "I") ∈ lw_all := sorry
theorem q1595 : (Jvm.Cond.superclass "LabelDriver$WebOut" "LabelDriver$Trouble") ∈ lw_all := sorry
theorem q1867 : (Jvm.Cond.selects "LabelDriver$WebOut" ({ cls := "LabelDriver$Trouble", name := "getCause", desc := "()Ljava/lang/Throwable;" } : Jvm.MethodName) ({ cls := "java/lang/Throwable", name := "getCause", desc := "()Ljava/lang/Throwable;" } : Jvm.MethodName)) ∈ lw_all := sorry
theorem q2636 : (Jvm.Cond.castable "LabelDriver$WebOut" "LabelDriver$Trouble") ∈ lw_tbl := sorry
theorem q2656 : (Jvm.Cond.castable "LabelDriver$WebOut" "java/lang/Object") ∈ lw_tbl := sorry
theorem in_X10 : ∀ w ∈ wsX100, w ∈ lw_all := sorry
/-! LabelDriver$NoContrast -/
set_option maxRecDepth 100000
def RX11 : String := "LabelDriver$NoContrast"
def TX11 : u_T := fun k => match k with
  | 0 => ("LabelDriver$Trouble", "code", "I", true)
  | 1 => ("java/lang/Throwable", "cause", "Ljava/lang/Throwable;", false)
  | 2 => ("java/lang/Throwable", "stackTrace", "[Ljava/lang/StackTraceElement;", false)
  | 3 => ("java/lang/Throwable", "suppressedExceptions", "Ljava/util/List;", false)
  | 4 => ("java/lang/Throwable", "detailMessage", "Ljava/lang/String;", false)
  | 5 => ("java/lang/Throwable", "backtrace", "Ljava/lang/Object;", false)
  | _ => ("java/lang/Throwable", "depth", "I", false)
def tyX11 : Nat → FieldType := fun k => match k with
  | 0 => .int
  | 1 => .object "java/lang/Throwable"
  | 2 => .array (.object "java/lang/StackTraceElement")
  | 3 => .object "java/util/List"
  | 4 => .object "java/lang/String"
  | 5 => .object "java/lang/Object"
  | _ => .int
abbrev wsX110 : List Cond := u_ws RX11 TX11 7
theorem nmX11 : ∀ a, a < 7 → ∀ b, b < 7 → a ≠ b → (TX11 a).2.1 ≠ (TX11 b).2.1 := sorry
theorem tyX11_ok : ∀ k, k < 7 → parseFieldDescriptor (TX11 k).2.2.1 = some (tyX11 k) := sorry
abbrev cX11_init : ByteArray := prog_5_method_1_code
def yX11_init : MethodName := ⟨RX11, "<init>", "()V"⟩
def dkwX11_init_0 : List UInt8 := [42, 7, 1, 183, 0, 3, 177]
abbrev dktX11_init_0 : List UInt8 := dkwX11_init_0 ++ []
theorem dksX11_init_0 : cX11_init.data.toList.drop 0 = dktX11_init_0 := sorry
theorem dX11_init_0 : decode cX11_init 0 = .ok (.aload_n 0, 1) := sorry
theorem dX11_init_1 : decode cX11_init 1 = .ok (.iconst 4, 1) := sorry
theorem dX11_init_2 : decode cX11_init 2 = .ok (.aconst_null, 1) := sorry
theorem dX11_init_3 : decode cX11_init 3 = .ok (.invokespecial 3, 3) := sorry
theorem dX11_init_6 : decode cX11_init 6 = .ok (.return_, 1) := sorry
theorem q121 : (Jvm.Cond.initialized "LabelDriver$NoContrast") ∈ lw_all := sorry
theorem q212 : (Jvm.Cond.selects "LabelDriver$NoContrast" ({ cls := "java/lang/Throwable", name := "fillInStackTrace", desc := "()Ljava/lang/Throwable;" } : Jvm.MethodName) ({ cls := "java/lang/Throwable", name := "fillInStackTrace", desc := "()Ljava/lang/Throwable;" } : Jvm.MethodName)) ∈ lw_all := sorry
theorem q1290 : (Jvm.Cond.selects "LabelDriver$NoContrast" ({ cls := "java/lang/Object", name := "getClass", desc := "()Ljava/lang/Class;" } : Jvm.MethodName) ({ cls := "java/lang/Object", name := "getClass", desc := "()Ljava/lang/Class;" } : Jvm.MethodName)) ∈ lw_all := sorry
theorem q1601 : (Jvm.Cond.instantiable "LabelDriver$NoContrast" (7 : Nat)) ∈ lw_all := sorry
theorem q1602 : (Jvm.Cond.castable "LabelDriver$NoContrast" "LabelDriver$NoContrast") ∈ lw_tbl := sorry
theorem q1603 : (Jvm.Cond.selects "LabelDriver$NoContrast" ({ cls := "java/lang/Throwable", name := "fillInStackTrace", desc := "(I)Ljava/lang/Throwable;" } : Jvm.MethodName) ({ cls := "java/lang/Throwable", name := "fillInStackTrace", desc := "(I)Ljava/lang/Throwable;" } : Jvm.MethodName)) ∈ lw_all := sorry
theorem q1604 : (Jvm.Cond.lays "LabelDriver$NoContrast" "java/lang/Throwable" "cause" "Ljava/lang/Throwable;") ∈ lw_all := sorry
theorem q1605 : (Jvm.Cond.lays "LabelDriver$NoContrast" "java/lang/Throwable" "stackTrace" "[Ljava/lang/StackTraceElement;") ∈ lw_all := sorry
theorem q1606 : (Jvm.Cond.lays "LabelDriver$NoContrast" "java/lang/Throwable" "suppressedExceptions" "Ljava/util/List;") ∈ lw_all := sorry
theorem q1607 : (Jvm.Cond.lays "LabelDriver$NoContrast" "java/lang/Throwable" "detailMessage" "Ljava/lang/String;") ∈ lw_all := sorry
theorem q1608 : (Jvm.Cond.lays "LabelDriver$NoContrast" "java/lang/Throwable" "backtrace" "Ljava/lang/Object;") ∈ lw_all := sorry
theorem q1610 : (Jvm.Cond.instanceMethod ({ cls := "LabelDriver$NoContrast", name := "<init>", desc := "()V" } : Jvm.MethodName)) ∈ lw_all := sorry
theorem q1611 : (Jvm.Cond.code ({ cls := "LabelDriver$NoContrast", name := "<init>", desc := "()V" } : Jvm.MethodName) prog_5_method_1_code (1 : Nat) (Option.none : Option Jvm.ClassFile.FieldType)) ∈ lw_all := sorry
theorem q1612 : (Jvm.Cond.methodLink "LabelDriver$NoContrast" (3 : Nat) ({ cls := "LabelDriver$Trouble", name := "<init>", desc := "(ILjava/lang/Exception;)V" } : Jvm.MethodName)) ∈ lw_all := sorry
theorem q1613 : (Jvm.Cond.laysFinal "LabelDriver$NoContrast" "LabelDriver$Trouble" "code" "I") ∈ lw_all := sorry
theorem q1614 : (Jvm.Cond.lays "LabelDriver$NoContrast" "java/lang/Throwable" "depth" "I") ∈ lw_all := sorry
theorem q1615 : (Jvm.Cond.superclass "LabelDriver$NoContrast" "LabelDriver$Trouble") ∈ lw_all := sorry
theorem q1865 : (Jvm.Cond.selects "LabelDriver$NoContrast" ({ cls := "LabelDriver$Trouble", name := "getCause", desc := "()Ljava/lang/Throwable;" } : Jvm.MethodName) ({ cls := "java/lang/Throwable", name := "getCause", desc := "()Ljava/lang/Throwable;" } : Jvm.MethodName)) ∈ lw_all := sorry
theorem q2634 : (Jvm.Cond.castable "LabelDriver$NoContrast" "LabelDriver$Trouble") ∈ lw_tbl := sorry
theorem q2657 : (Jvm.Cond.castable "LabelDriver$NoContrast" "java/lang/Object") ∈ lw_tbl := sorry
theorem in_X11 : ∀ w ∈ wsX110, w ∈ lw_all := sorry
/-! LabelDriver$State$1 -/
set_option maxRecDepth 100000
def RX12 : String := "LabelDriver$State$1"
def TX12 : u_T := fun k => match k with
  | 0 => ("LabelDriver$State$1", "next", "I", false)
  | 1 => ("LabelDriver$State$1", "val$from", "I", true)
  | 2 => ("LabelDriver$State$1", "val$to", "I", true)
  | _ => ("LabelDriver$State$1", "this$1", "LLabelDriver$State;", true)
def tyX12 : Nat → FieldType := fun k => match k with
  | 0 => .int
  | 1 => .int
  | 2 => .int
  | _ => .object "LabelDriver$State"
abbrev wsX120 : List Cond := u_ws RX12 TX12 4
theorem nmX12 : ∀ a, a < 4 → ∀ b, b < 4 → a ≠ b → (TX12 a).2.1 ≠ (TX12 b).2.1 := sorry
theorem tyX12_ok : ∀ k, k < 4 → parseFieldDescriptor (TX12 k).2.2.1 = some (tyX12 k) := sorry
abbrev cX12_hasNext : ByteArray := prog_12_method_3_code
def yX12_hasNext : MethodName := ⟨RX12, "hasNext", "()Z"⟩
def dkwX12_hasNext_0 : List UInt8 := [42, 180, 0, 20, 42, 180, 0, 11, 163, 0, 7, 4, 167, 0, 4, 3, 172]
abbrev dktX12_hasNext_0 : List UInt8 := dkwX12_hasNext_0 ++ []
theorem dksX12_hasNext_0 : cX12_hasNext.data.toList.drop 0 = dktX12_hasNext_0 := sorry
theorem dX12_hasNext_0 : decode cX12_hasNext 0 = .ok (.aload_n 0, 1) := sorry
theorem dX12_hasNext_1 : decode cX12_hasNext 1 = .ok (.getfield 20, 3) := sorry
theorem dX12_hasNext_4 : decode cX12_hasNext 4 = .ok (.aload_n 0, 1) := sorry
theorem dX12_hasNext_5 : decode cX12_hasNext 5 = .ok (.getfield 11, 3) := sorry
theorem dX12_hasNext_8 : decode cX12_hasNext 8 = .ok (.if_icmp .gt 7, 3) := sorry
theorem dX12_hasNext_11 : decode cX12_hasNext 11 = .ok (.iconst 1, 1) := sorry
theorem dX12_hasNext_12 : decode cX12_hasNext 12 = .ok (.goto 4, 3) := sorry
theorem dX12_hasNext_15 : decode cX12_hasNext 15 = .ok (.iconst 0, 1) := sorry
theorem dX12_hasNext_16 : decode cX12_hasNext 16 = .ok (.ireturn, 1) := sorry
abbrev cX12_next : ByteArray := prog_12_method_5_code
def yX12_next : MethodName := ⟨RX12, "next", "()Ljava/lang/Object;"⟩
theorem dX12_next_0 : decode cX12_next 0 = .ok (.aload_n 0, 1) := sorry
theorem dX12_next_1 : decode cX12_next 1 = .ok (.invokevirtual 41, 3) := sorry
theorem dX12_next_4 : decode cX12_next 4 = .ok (.areturn, 1) := sorry
abbrev cX12_next_2 : ByteArray := prog_12_method_4_code
def yX12_next_2 : MethodName := ⟨RX12, "next", "()Ljava/lang/Integer;"⟩
def dkwX12_next_2_1 : List UInt8 := [42, 182, 0, 23, 27, 184, 0, 35, 176]
abbrev dktX12_next_2_1 : List UInt8 := dkwX12_next_2_1 ++ []
def dkwX12_next_2_0 : List UInt8 := [42, 180, 0, 20, 42, 180, 0, 11, 164, 0, 11, 187, 0, 32, 89, 183, 0, 34, 191, 42, 180, 0, 20, 60]
abbrev dktX12_next_2_0 : List UInt8 := dkwX12_next_2_0 ++ dktX12_next_2_1
theorem dksX12_next_2_0 : cX12_next_2.data.toList.drop 0 = dktX12_next_2_0 := sorry
theorem dksX12_next_2_1 : cX12_next_2.data.toList.drop 24 = dktX12_next_2_1 := sorry
theorem dX12_next_2_0 : decode cX12_next_2 0 = .ok (.aload_n 0, 1) := sorry
theorem dX12_next_2_1 : decode cX12_next_2 1 = .ok (.getfield 20, 3) := sorry
theorem dX12_next_2_4 : decode cX12_next_2 4 = .ok (.aload_n 0, 1) := sorry
theorem dX12_next_2_5 : decode cX12_next_2 5 = .ok (.getfield 11, 3) := sorry
theorem dX12_next_2_8 : decode cX12_next_2 8 = .ok (.if_icmp .le 11, 3) := sorry
theorem dX12_next_2_11 : decode cX12_next_2 11 = .ok (.new 32, 3) := sorry
theorem dX12_next_2_14 : decode cX12_next_2 14 = .ok (.dup, 1) := sorry
theorem dX12_next_2_15 : decode cX12_next_2 15 = .ok (.invokespecial 34, 3) := sorry
theorem dX12_next_2_18 : decode cX12_next_2 18 = .ok (.athrow, 1) := sorry
theorem dX12_next_2_19 : decode cX12_next_2 19 = .ok (.aload_n 0, 1) := sorry
theorem dX12_next_2_20 : decode cX12_next_2 20 = .ok (.getfield 20, 3) := sorry
theorem dX12_next_2_23 : decode cX12_next_2 23 = .ok (.istore_n 1, 1) := sorry
theorem dX12_next_2_24 : decode cX12_next_2 24 = .ok (.aload_n 0, 1) := sorry
theorem dX12_next_2_25 : decode cX12_next_2 25 = .ok (.invokevirtual 23, 3) := sorry
theorem dX12_next_2_28 : decode cX12_next_2 28 = .ok (.iload_n 1, 1) := sorry
theorem dX12_next_2_29 : decode cX12_next_2 29 = .ok (.invokestatic 35, 3) := sorry
theorem dX12_next_2_32 : decode cX12_next_2 32 = .ok (.areturn, 1) := sorry
abbrev cX12_seek : ByteArray := prog_12_method_2_code
def yX12_seek : MethodName := ⟨RX12, "seek", "()V"⟩
def dkwX12_seek_2 : List UInt8 := [167, 255, 221, 177]
abbrev dktX12_seek_2 : List UInt8 := dkwX12_seek_2 ++ []
def dkwX12_seek_1 : List UInt8 := [180, 0, 1, 42, 180, 0, 20, 182, 0, 26, 154, 0, 16, 42, 89, 180, 0, 20, 4, 96, 181, 0, 20]
abbrev dktX12_seek_1 : List UInt8 := dkwX12_seek_1 ++ dktX12_seek_2
def dkwX12_seek_0 : List UInt8 := [42, 89, 180, 0, 20, 4, 96, 181, 0, 20, 42, 180, 0, 20, 42, 180, 0, 11, 163, 0, 30, 42]
abbrev dktX12_seek_0 : List UInt8 := dkwX12_seek_0 ++ dktX12_seek_1
theorem dksX12_seek_0 : cX12_seek.data.toList.drop 0 = dktX12_seek_0 := sorry
theorem dksX12_seek_1 : cX12_seek.data.toList.drop 22 = dktX12_seek_1 := sorry
theorem dksX12_seek_2 : cX12_seek.data.toList.drop 45 = dktX12_seek_2 := sorry
theorem dX12_seek_0 : decode cX12_seek 0 = .ok (.aload_n 0, 1) := sorry
theorem dX12_seek_1 : decode cX12_seek 1 = .ok (.dup, 1) := sorry
theorem dX12_seek_2 : decode cX12_seek 2 = .ok (.getfield 20, 3) := sorry
theorem dX12_seek_5 : decode cX12_seek 5 = .ok (.iconst 1, 1) := sorry
theorem dX12_seek_6 : decode cX12_seek 6 = .ok (.iadd, 1) := sorry
theorem dX12_seek_7 : decode cX12_seek 7 = .ok (.putfield 20, 3) := sorry
theorem dX12_seek_10 : decode cX12_seek 10 = .ok (.aload_n 0, 1) := sorry
theorem dX12_seek_11 : decode cX12_seek 11 = .ok (.getfield 20, 3) := sorry
theorem dX12_seek_14 : decode cX12_seek 14 = .ok (.aload_n 0, 1) := sorry
theorem dX12_seek_15 : decode cX12_seek 15 = .ok (.getfield 11, 3) := sorry
theorem dX12_seek_18 : decode cX12_seek 18 = .ok (.if_icmp .gt 30, 3) := sorry
theorem dX12_seek_21 : decode cX12_seek 21 = .ok (.aload_n 0, 1) := sorry
theorem dX12_seek_22 : decode cX12_seek 22 = .ok (.getfield 1, 3) := sorry
theorem dX12_seek_25 : decode cX12_seek 25 = .ok (.aload_n 0, 1) := sorry
theorem dX12_seek_26 : decode cX12_seek 26 = .ok (.getfield 20, 3) := sorry
theorem dX12_seek_29 : decode cX12_seek 29 = .ok (.invokevirtual 26, 3) := sorry
theorem dX12_seek_32 : decode cX12_seek 32 = .ok (.ifCond .ne 16, 3) := sorry
theorem dX12_seek_35 : decode cX12_seek 35 = .ok (.aload_n 0, 1) := sorry
theorem dX12_seek_36 : decode cX12_seek 36 = .ok (.dup, 1) := sorry
theorem dX12_seek_37 : decode cX12_seek 37 = .ok (.getfield 20, 3) := sorry
theorem dX12_seek_40 : decode cX12_seek 40 = .ok (.iconst 1, 1) := sorry
theorem dX12_seek_41 : decode cX12_seek 41 = .ok (.iadd, 1) := sorry
theorem dX12_seek_42 : decode cX12_seek 42 = .ok (.putfield 20, 3) := sorry
theorem dX12_seek_45 : decode cX12_seek 45 = .ok (.goto (-35), 3) := sorry
theorem dX12_seek_48 : decode cX12_seek 48 = .ok (.return_, 1) := sorry
abbrev cX12_init : ByteArray := prog_12_method_1_code
def yX12_init : MethodName := ⟨RX12, "<init>", "(LLabelDriver$State;II)V"⟩
def dkwX12_init_1 : List UInt8 := [4, 100, 181, 0, 20, 42, 182, 0, 23, 177]
abbrev dktX12_init_1 : List UInt8 := dkwX12_init_1 ++ []
def dkwX12_init_0 : List UInt8 := [42, 43, 181, 0, 1, 42, 28, 181, 0, 7, 42, 29, 181, 0, 11, 42, 183, 0, 14, 42, 42, 180, 0, 7]
abbrev dktX12_init_0 : List UInt8 := dkwX12_init_0 ++ dktX12_init_1
theorem dksX12_init_0 : cX12_init.data.toList.drop 0 = dktX12_init_0 := sorry
theorem dksX12_init_1 : cX12_init.data.toList.drop 24 = dktX12_init_1 := sorry
theorem dX12_init_0 : decode cX12_init 0 = .ok (.aload_n 0, 1) := sorry
theorem dX12_init_1 : decode cX12_init 1 = .ok (.aload_n 1, 1) := sorry
theorem dX12_init_2 : decode cX12_init 2 = .ok (.putfield 1, 3) := sorry
theorem dX12_init_5 : decode cX12_init 5 = .ok (.aload_n 0, 1) := sorry
theorem dX12_init_6 : decode cX12_init 6 = .ok (.iload_n 2, 1) := sorry
theorem dX12_init_7 : decode cX12_init 7 = .ok (.putfield 7, 3) := sorry
theorem dX12_init_10 : decode cX12_init 10 = .ok (.aload_n 0, 1) := sorry
theorem dX12_init_11 : decode cX12_init 11 = .ok (.iload_n 3, 1) := sorry
theorem dX12_init_12 : decode cX12_init 12 = .ok (.putfield 11, 3) := sorry
theorem dX12_init_15 : decode cX12_init 15 = .ok (.aload_n 0, 1) := sorry
theorem dX12_init_16 : decode cX12_init 16 = .ok (.invokespecial 14, 3) := sorry
theorem dX12_init_19 : decode cX12_init 19 = .ok (.aload_n 0, 1) := sorry
theorem dX12_init_20 : decode cX12_init 20 = .ok (.aload_n 0, 1) := sorry
theorem dX12_init_21 : decode cX12_init 21 = .ok (.getfield 7, 3) := sorry
theorem dX12_init_24 : decode cX12_init 24 = .ok (.iconst 1, 1) := sorry
theorem dX12_init_25 : decode cX12_init 25 = .ok (.isub, 1) := sorry
theorem dX12_init_26 : decode cX12_init 26 = .ok (.putfield 20, 3) := sorry
theorem dX12_init_29 : decode cX12_init 29 = .ok (.aload_n 0, 1) := sorry
theorem dX12_init_30 : decode cX12_init 30 = .ok (.invokevirtual 23, 3) := sorry
theorem dX12_init_33 : decode cX12_init 33 = .ok (.return_, 1) := sorry
theorem q122 : (Jvm.Cond.initialized "LabelDriver$State$1") ∈ lw_all := sorry
theorem q763 : (Jvm.Cond.castable "LabelDriver$State$1" "java/util/Iterator") ∈ lw_tbl := sorry
theorem q764 : (Jvm.Cond.selects "LabelDriver$State$1" ({ cls := "java/util/Iterator", name := "hasNext", desc := "()Z" } : Jvm.MethodName) ({ cls := "LabelDriver$State$1", name := "hasNext", desc := "()Z" } : Jvm.MethodName)) ∈ lw_all := sorry
theorem q765 : (Jvm.Cond.unhidden "LabelDriver$State$1" "hasNext" "()Z") ∈ lw_tbl := sorry
theorem q766 : (Jvm.Cond.instanceMethod ({ cls := "LabelDriver$State$1", name := "hasNext", desc := "()Z" } : Jvm.MethodName)) ∈ lw_all := sorry
theorem q767 : (Jvm.Cond.publicMethod ({ cls := "LabelDriver$State$1", name := "hasNext", desc := "()Z" } : Jvm.MethodName)) ∈ lw_tbl := sorry
theorem q768 : (Jvm.Cond.code ({ cls := "LabelDriver$State$1", name := "hasNext", desc := "()Z" } : Jvm.MethodName) prog_12_method_3_code (1 : Nat) (Option.some Jvm.ClassFile.FieldType.boolean)) ∈ lw_all := sorry
theorem q779 : (Jvm.Cond.selects "LabelDriver$State$1" ({ cls := "java/util/Iterator", name := "next", desc := "()Ljava/lang/Object;" } : Jvm.MethodName) ({ cls := "LabelDriver$State$1", name := "next", desc := "()Ljava/lang/Object;" } : Jvm.MethodName)) ∈ lw_all := sorry
theorem q780 : (Jvm.Cond.unhidden "LabelDriver$State$1" "next" "()Ljava/lang/Object;") ∈ lw_tbl := sorry
theorem q781 : (Jvm.Cond.instanceMethod ({ cls := "LabelDriver$State$1", name := "next", desc := "()Ljava/lang/Object;" } : Jvm.MethodName)) ∈ lw_all := sorry
theorem q782 : (Jvm.Cond.publicMethod ({ cls := "LabelDriver$State$1", name := "next", desc := "()Ljava/lang/Object;" } : Jvm.MethodName)) ∈ lw_tbl := sorry
theorem q783 : (Jvm.Cond.code ({ cls := "LabelDriver$State$1", name := "next", desc := "()Ljava/lang/Object;" } : Jvm.MethodName) prog_12_method_5_code (1 : Nat) (Option.some (Jvm.ClassFile.FieldType.object "java/lang/Object"))) ∈ lw_all := sorry
theorem q784 : (Jvm.Cond.methodLink "LabelDriver$State$1" (41 : Nat) ({ cls := "LabelDriver$State$1", name := "next", desc := "()Ljava/lang/Integer;" } : Jvm.MethodName)) ∈ lw_all := sorry
theorem q785 : (Jvm.Cond.instanceMethod ({ cls := "LabelDriver$State$1", name := "next", desc := "()Ljava/lang/Integer;" } : Jvm.MethodName)) ∈ lw_all := sorry
theorem q786 : (Jvm.Cond.selects "LabelDriver$State$1" ({ cls := "LabelDriver$State$1", name := "next", desc := "()Ljava/lang/Integer;" } : Jvm.MethodName) ({ cls := "LabelDriver$State$1", name := "next", desc := "()Ljava/lang/Integer;" } : Jvm.MethodName)) ∈ lw_all := sorry
theorem q787 : (Jvm.Cond.code ({ cls := "LabelDriver$State$1", name := "next", desc := "()Ljava/lang/Integer;" } : Jvm.MethodName) prog_12_method_4_code (2 : Nat) (Option.some (Jvm.ClassFile.FieldType.object "java/lang/Integer"))) ∈ lw_all := sorry
theorem q788 : (Jvm.Cond.classLink "LabelDriver$State$1" (32 : Nat) "java/util/NoSuchElementException") ∈ lw_all := sorry
theorem q797 : (Jvm.Cond.methodLink "LabelDriver$State$1" (34 : Nat) ({ cls := "java/util/NoSuchElementException", name := "<init>", desc := "()V" } : Jvm.MethodName)) ∈ lw_all := sorry
theorem q809 : (Jvm.Cond.methodLink "LabelDriver$State$1" (23 : Nat) ({ cls := "LabelDriver$State$1", name := "seek", desc := "()V" } : Jvm.MethodName)) ∈ lw_all := sorry
theorem q810 : (Jvm.Cond.privateMethod ({ cls := "LabelDriver$State$1", name := "seek", desc := "()V" } : Jvm.MethodName)) ∈ lw_tbl := sorry
theorem q811 : (Jvm.Cond.instanceMethod ({ cls := "LabelDriver$State$1", name := "seek", desc := "()V" } : Jvm.MethodName)) ∈ lw_all := sorry
theorem q812 : (Jvm.Cond.instantiable "LabelDriver$State$1" (4 : Nat)) ∈ lw_all := sorry
theorem q813 : (Jvm.Cond.code ({ cls := "LabelDriver$State$1", name := "seek", desc := "()V" } : Jvm.MethodName) prog_12_method_2_code (1 : Nat) (Option.none : Option Jvm.ClassFile.FieldType)) ∈ lw_all := sorry
theorem q814 : (Jvm.Cond.methodLinkNest "LabelDriver$State$1" (26 : Nat) ({ cls := "LabelDriver$State", name := "isBeginning", desc := "(I)Z" } : Jvm.MethodName) "LabelDriver") ∈ lw_tbl := sorry
theorem q835 : (Jvm.Cond.methodLink "LabelDriver$State$1" (35 : Nat) ({ cls := "java/lang/Integer", name := "valueOf", desc := "(I)Ljava/lang/Integer;" } : Jvm.MethodName)) ∈ lw_all := sorry
theorem q1297 : (Jvm.Cond.selects "LabelDriver$State$1" ({ cls := "java/lang/Object", name := "getClass", desc := "()Ljava/lang/Class;" } : Jvm.MethodName) ({ cls := "java/lang/Object", name := "getClass", desc := "()Ljava/lang/Class;" } : Jvm.MethodName)) ∈ lw_all := sorry
theorem q1626 : (Jvm.Cond.instanceMethod ({ cls := "LabelDriver$State$1", name := "<init>", desc := "(LLabelDriver$State;II)V" } : Jvm.MethodName)) ∈ lw_all := sorry
theorem q1627 : (Jvm.Cond.code ({ cls := "LabelDriver$State$1", name := "<init>", desc := "(LLabelDriver$State;II)V" } : Jvm.MethodName) prog_12_method_1_code (4 : Nat) (Option.none : Option Jvm.ClassFile.FieldType)) ∈ lw_all := sorry
theorem q1628 : (Jvm.Cond.methodLink "LabelDriver$State$1" (14 : Nat) ({ cls := "java/lang/Object", name := "<init>", desc := "()V" } : Jvm.MethodName)) ∈ lw_all := sorry
theorem q1629 : (Jvm.Cond.fieldLink "LabelDriver$State$1" (20 : Nat) "LabelDriver$State$1" "next" "I") ∈ lw_all := sorry
theorem q1630 : (Jvm.Cond.fieldLink "LabelDriver$State$1" (7 : Nat) "LabelDriver$State$1" "val$from" "I") ∈ lw_all := sorry
theorem q1631 : (Jvm.Cond.fieldLink "LabelDriver$State$1" (11 : Nat) "LabelDriver$State$1" "val$to" "I") ∈ lw_all := sorry
theorem q1632 : (Jvm.Cond.fieldLink "LabelDriver$State$1" (1 : Nat) "LabelDriver$State$1" "this$1" "LLabelDriver$State;") ∈ lw_all := sorry
theorem q1633 : (Jvm.Cond.lays "LabelDriver$State$1" "LabelDriver$State$1" "next" "I") ∈ lw_all := sorry
theorem q1634 : (Jvm.Cond.soleField "LabelDriver$State$1" "next") ∈ lw_all := sorry
theorem q1635 : (Jvm.Cond.laysFinal "LabelDriver$State$1" "LabelDriver$State$1" "val$from" "I") ∈ lw_all := sorry
theorem q1636 : (Jvm.Cond.soleField "LabelDriver$State$1" "val$from") ∈ lw_all := sorry
theorem q1637 : (Jvm.Cond.laysFinal "LabelDriver$State$1" "LabelDriver$State$1" "val$to" "I") ∈ lw_all := sorry
theorem q1638 : (Jvm.Cond.soleField "LabelDriver$State$1" "val$to") ∈ lw_all := sorry
theorem q1639 : (Jvm.Cond.laysFinal "LabelDriver$State$1" "LabelDriver$State$1" "this$1" "LLabelDriver$State;") ∈ lw_all := sorry
theorem q1640 : (Jvm.Cond.soleField "LabelDriver$State$1" "this$1") ∈ lw_all := sorry
theorem q1641 : (Jvm.Cond.superclass "LabelDriver$State$1" "java/lang/Object") ∈ lw_all := sorry
theorem q2658 : (Jvm.Cond.castable "LabelDriver$State$1" "java/lang/Object") ∈ lw_tbl := sorry
theorem in_X12 : ∀ w ∈ wsX120, w ∈ lw_all := sorry
/-! LabelDriver$Lost -/
set_option maxRecDepth 100000
def RX13 : String := "LabelDriver$Lost"
def TX13 : u_T := fun k => match k with
  | 0 => ("LabelDriver$Trouble", "code", "I", true)
  | 1 => ("java/lang/Throwable", "cause", "Ljava/lang/Throwable;", false)
  | 2 => ("java/lang/Throwable", "stackTrace", "[Ljava/lang/StackTraceElement;", false)
  | 3 => ("java/lang/Throwable", "suppressedExceptions", "Ljava/util/List;", false)
  | 4 => ("java/lang/Throwable", "detailMessage", "Ljava/lang/String;", false)
  | 5 => ("java/lang/Throwable", "backtrace", "Ljava/lang/Object;", false)
  | _ => ("java/lang/Throwable", "depth", "I", false)
def tyX13 : Nat → FieldType := fun k => match k with
  | 0 => .int
  | 1 => .object "java/lang/Throwable"
  | 2 => .array (.object "java/lang/StackTraceElement")
  | 3 => .object "java/util/List"
  | 4 => .object "java/lang/String"
  | 5 => .object "java/lang/Object"
  | _ => .int
abbrev wsX130 : List Cond := u_ws RX13 TX13 7
theorem nmX13 : ∀ a, a < 7 → ∀ b, b < 7 → a ≠ b → (TX13 a).2.1 ≠ (TX13 b).2.1 := sorry
theorem tyX13_ok : ∀ k, k < 7 → parseFieldDescriptor (TX13 k).2.2.1 = some (tyX13 k) := sorry
abbrev cX13_init : ByteArray := prog_3_method_1_code
def yX13_init : MethodName := ⟨RX13, "<init>", "(Ljava/lang/Exception;)V"⟩
def dkwX13_init_0 : List UInt8 := [42, 6, 43, 183, 0, 3, 177]
abbrev dktX13_init_0 : List UInt8 := dkwX13_init_0 ++ []
theorem dksX13_init_0 : cX13_init.data.toList.drop 0 = dktX13_init_0 := sorry
theorem dX13_init_0 : decode cX13_init 0 = .ok (.aload_n 0, 1) := sorry
theorem dX13_init_1 : decode cX13_init 1 = .ok (.iconst 3, 1) := sorry
theorem dX13_init_2 : decode cX13_init 2 = .ok (.aload_n 1, 1) := sorry
theorem dX13_init_3 : decode cX13_init 3 = .ok (.invokespecial 3, 3) := sorry
theorem dX13_init_6 : decode cX13_init 6 = .ok (.return_, 1) := sorry
theorem q123 : (Jvm.Cond.initialized "LabelDriver$Lost") ∈ lw_all := sorry
theorem q210 : (Jvm.Cond.selects "LabelDriver$Lost" ({ cls := "java/lang/Throwable", name := "fillInStackTrace", desc := "()Ljava/lang/Throwable;" } : Jvm.MethodName) ({ cls := "java/lang/Throwable", name := "fillInStackTrace", desc := "()Ljava/lang/Throwable;" } : Jvm.MethodName)) ∈ lw_all := sorry
theorem q1288 : (Jvm.Cond.selects "LabelDriver$Lost" ({ cls := "java/lang/Object", name := "getClass", desc := "()Ljava/lang/Class;" } : Jvm.MethodName) ({ cls := "java/lang/Object", name := "getClass", desc := "()Ljava/lang/Class;" } : Jvm.MethodName)) ∈ lw_all := sorry
theorem q1652 : (Jvm.Cond.instantiable "LabelDriver$Lost" (7 : Nat)) ∈ lw_all := sorry
theorem q1653 : (Jvm.Cond.castable "LabelDriver$Lost" "LabelDriver$Lost") ∈ lw_tbl := sorry
theorem q1654 : (Jvm.Cond.selects "LabelDriver$Lost" ({ cls := "java/lang/Throwable", name := "fillInStackTrace", desc := "(I)Ljava/lang/Throwable;" } : Jvm.MethodName) ({ cls := "java/lang/Throwable", name := "fillInStackTrace", desc := "(I)Ljava/lang/Throwable;" } : Jvm.MethodName)) ∈ lw_all := sorry
theorem q1655 : (Jvm.Cond.lays "LabelDriver$Lost" "java/lang/Throwable" "cause" "Ljava/lang/Throwable;") ∈ lw_all := sorry
theorem q1656 : (Jvm.Cond.lays "LabelDriver$Lost" "java/lang/Throwable" "stackTrace" "[Ljava/lang/StackTraceElement;") ∈ lw_all := sorry
theorem q1657 : (Jvm.Cond.lays "LabelDriver$Lost" "java/lang/Throwable" "suppressedExceptions" "Ljava/util/List;") ∈ lw_all := sorry
theorem q1658 : (Jvm.Cond.lays "LabelDriver$Lost" "java/lang/Throwable" "detailMessage" "Ljava/lang/String;") ∈ lw_all := sorry
theorem q1659 : (Jvm.Cond.lays "LabelDriver$Lost" "java/lang/Throwable" "backtrace" "Ljava/lang/Object;") ∈ lw_all := sorry
theorem q1661 : (Jvm.Cond.instanceMethod ({ cls := "LabelDriver$Lost", name := "<init>", desc := "(Ljava/lang/Exception;)V" } : Jvm.MethodName)) ∈ lw_all := sorry
theorem q1662 : (Jvm.Cond.code ({ cls := "LabelDriver$Lost", name := "<init>", desc := "(Ljava/lang/Exception;)V" } : Jvm.MethodName) prog_3_method_1_code (2 : Nat) (Option.none : Option Jvm.ClassFile.FieldType)) ∈ lw_all := sorry
theorem q1663 : (Jvm.Cond.methodLink "LabelDriver$Lost" (3 : Nat) ({ cls := "LabelDriver$Trouble", name := "<init>", desc := "(ILjava/lang/Exception;)V" } : Jvm.MethodName)) ∈ lw_all := sorry
theorem q1664 : (Jvm.Cond.laysFinal "LabelDriver$Lost" "LabelDriver$Trouble" "code" "I") ∈ lw_all := sorry
theorem q1665 : (Jvm.Cond.lays "LabelDriver$Lost" "java/lang/Throwable" "depth" "I") ∈ lw_all := sorry
theorem q1666 : (Jvm.Cond.superclass "LabelDriver$Lost" "LabelDriver$Trouble") ∈ lw_all := sorry
theorem q1864 : (Jvm.Cond.selects "LabelDriver$Lost" ({ cls := "LabelDriver$Trouble", name := "getCause", desc := "()Ljava/lang/Throwable;" } : Jvm.MethodName) ({ cls := "java/lang/Throwable", name := "getCause", desc := "()Ljava/lang/Throwable;" } : Jvm.MethodName)) ∈ lw_all := sorry
theorem q2633 : (Jvm.Cond.castable "LabelDriver$Lost" "LabelDriver$Trouble") ∈ lw_tbl := sorry
theorem q2660 : (Jvm.Cond.castable "LabelDriver$Lost" "java/lang/Object") ∈ lw_tbl := sorry
theorem in_X13 : ∀ w ∈ wsX130, w ∈ lw_all := sorry
/-! LabelDriver$Serial -/
set_option maxRecDepth 100000
def RX14 : String := "LabelDriver$Serial"
def TX14 : u_T := fun k => match k with
  | 0 => ("LabelDriver$Serial", "batch", "I", true)
  | _ => ("LabelDriver$Serial", "serial", "I", true)
def tyX14 : Nat → FieldType := fun k => match k with
  | 0 => .int
  | _ => .int
abbrev wsX140 : List Cond := u_ws RX14 TX14 2
theorem nmX14 : ∀ a, a < 2 → ∀ b, b < 2 → a ≠ b → (TX14 a).2.1 ≠ (TX14 b).2.1 := sorry
theorem tyX14_ok : ∀ k, k < 2 → parseFieldDescriptor (TX14 k).2.2.1 = some (tyX14 k) := sorry
abbrev cX14_code : ByteArray := prog_9_method_3_code
def yX14_code : MethodName := ⟨RX14, "code", "()I"⟩
def dkwX14_code_0 : List UInt8 := [16, 100, 42, 180, 0, 7, 104, 42, 180, 0, 13, 96, 172]
abbrev dktX14_code_0 : List UInt8 := dkwX14_code_0 ++ []
theorem dksX14_code_0 : cX14_code.data.toList.drop 0 = dktX14_code_0 := sorry
theorem dX14_code_0 : decode cX14_code 0 = .ok (.bipush 100, 2) := sorry
theorem dX14_code_2 : decode cX14_code 2 = .ok (.aload_n 0, 1) := sorry
theorem dX14_code_3 : decode cX14_code 3 = .ok (.getfield 7, 3) := sorry
theorem dX14_code_6 : decode cX14_code 6 = .ok (.imul, 1) := sorry
theorem dX14_code_7 : decode cX14_code 7 = .ok (.aload_n 0, 1) := sorry
theorem dX14_code_8 : decode cX14_code 8 = .ok (.getfield 13, 3) := sorry
theorem dX14_code_11 : decode cX14_code 11 = .ok (.iadd, 1) := sorry
theorem dX14_code_12 : decode cX14_code 12 = .ok (.ireturn, 1) := sorry
abbrev cX14_init : ByteArray := prog_9_method_1_code
def yX14_init : MethodName := ⟨RX14, "<init>", "(II)V"⟩
def dkwX14_init_0 : List UInt8 := [42, 183, 0, 1, 42, 27, 181, 0, 7, 42, 28, 181, 0, 13, 177]
abbrev dktX14_init_0 : List UInt8 := dkwX14_init_0 ++ []
theorem dksX14_init_0 : cX14_init.data.toList.drop 0 = dktX14_init_0 := sorry
theorem dX14_init_0 : decode cX14_init 0 = .ok (.aload_n 0, 1) := sorry
theorem dX14_init_1 : decode cX14_init 1 = .ok (.invokespecial 1, 3) := sorry
theorem dX14_init_4 : decode cX14_init 4 = .ok (.aload_n 0, 1) := sorry
theorem dX14_init_5 : decode cX14_init 5 = .ok (.iload_n 1, 1) := sorry
theorem dX14_init_6 : decode cX14_init 6 = .ok (.putfield 7, 3) := sorry
theorem dX14_init_9 : decode cX14_init 9 = .ok (.aload_n 0, 1) := sorry
theorem dX14_init_10 : decode cX14_init 10 = .ok (.iload_n 2, 1) := sorry
theorem dX14_init_11 : decode cX14_init 11 = .ok (.putfield 13, 3) := sorry
theorem dX14_init_14 : decode cX14_init 14 = .ok (.return_, 1) := sorry
abbrev cX14_isSame : ByteArray := prog_9_method_4_code
def yX14_isSame : MethodName := ⟨RX14, "isSame", "(LLabelDriver$Serial;)Z"⟩
def dkwX14_isSame_0 : List UInt8 := [42, 182, 0, 19, 43, 182, 0, 19, 160, 0, 7, 4, 167, 0, 4, 3, 172]
abbrev dktX14_isSame_0 : List UInt8 := dkwX14_isSame_0 ++ []
theorem dksX14_isSame_0 : cX14_isSame.data.toList.drop 0 = dktX14_isSame_0 := sorry
theorem dX14_isSame_0 : decode cX14_isSame 0 = .ok (.aload_n 0, 1) := sorry
theorem dX14_isSame_1 : decode cX14_isSame 1 = .ok (.invokevirtual 19, 3) := sorry
theorem dX14_isSame_4 : decode cX14_isSame 4 = .ok (.aload_n 1, 1) := sorry
theorem dX14_isSame_5 : decode cX14_isSame 5 = .ok (.invokevirtual 19, 3) := sorry
theorem dX14_isSame_8 : decode cX14_isSame 8 = .ok (.if_icmp .ne 7, 3) := sorry
theorem dX14_isSame_11 : decode cX14_isSame 11 = .ok (.iconst 1, 1) := sorry
theorem dX14_isSame_12 : decode cX14_isSame 12 = .ok (.goto 4, 3) := sorry
theorem dX14_isSame_15 : decode cX14_isSame 15 = .ok (.iconst 0, 1) := sorry
theorem dX14_isSame_16 : decode cX14_isSame 16 = .ok (.ireturn, 1) := sorry
abbrev cX14_init_2 : ByteArray := prog_9_method_2_code
def yX14_init_2 : MethodName := ⟨RX14, "<init>", "(I)V"⟩
def dkwX14_init_2_0 : List UInt8 := [42, 27, 16, 100, 108, 27, 16, 100, 112, 183, 0, 16, 177]
abbrev dktX14_init_2_0 : List UInt8 := dkwX14_init_2_0 ++ []
theorem dksX14_init_2_0 : cX14_init_2.data.toList.drop 0 = dktX14_init_2_0 := sorry
theorem dX14_init_2_0 : decode cX14_init_2 0 = .ok (.aload_n 0, 1) := sorry
theorem dX14_init_2_1 : decode cX14_init_2 1 = .ok (.iload_n 1, 1) := sorry
theorem dX14_init_2_2 : decode cX14_init_2 2 = .ok (.bipush 100, 2) := sorry
theorem dX14_init_2_4 : decode cX14_init_2 4 = .ok (.idiv, 1) := sorry
theorem dX14_init_2_5 : decode cX14_init_2 5 = .ok (.iload_n 1, 1) := sorry
theorem dX14_init_2_6 : decode cX14_init_2 6 = .ok (.bipush 100, 2) := sorry
theorem dX14_init_2_8 : decode cX14_init_2 8 = .ok (.irem, 1) := sorry
theorem dX14_init_2_9 : decode cX14_init_2 9 = .ok (.invokespecial 16, 3) := sorry
theorem dX14_init_2_12 : decode cX14_init_2 12 = .ok (.return_, 1) := sorry
theorem q124 : (Jvm.Cond.initialized "LabelDriver$Serial") ∈ lw_all := sorry
theorem q870 : (Jvm.Cond.instanceMethod ({ cls := "LabelDriver$Serial", name := "code", desc := "()I" } : Jvm.MethodName)) ∈ lw_all := sorry
theorem q871 : (Jvm.Cond.selects "LabelDriver$Serial" ({ cls := "LabelDriver$Serial", name := "code", desc := "()I" } : Jvm.MethodName) ({ cls := "LabelDriver$Serial", name := "code", desc := "()I" } : Jvm.MethodName)) ∈ lw_all := sorry
theorem q872 : (Jvm.Cond.code ({ cls := "LabelDriver$Serial", name := "code", desc := "()I" } : Jvm.MethodName) prog_9_method_3_code (1 : Nat) (Option.some Jvm.ClassFile.FieldType.int)) ∈ lw_all := sorry
theorem q898 : (Jvm.Cond.instantiable "LabelDriver$Serial" (2 : Nat)) ∈ lw_all := sorry
theorem q900 : (Jvm.Cond.instanceMethod ({ cls := "LabelDriver$Serial", name := "<init>", desc := "(II)V" } : Jvm.MethodName)) ∈ lw_all := sorry
theorem q901 : (Jvm.Cond.code ({ cls := "LabelDriver$Serial", name := "<init>", desc := "(II)V" } : Jvm.MethodName) prog_9_method_1_code (3 : Nat) (Option.none : Option Jvm.ClassFile.FieldType)) ∈ lw_all := sorry
theorem q902 : (Jvm.Cond.methodLink "LabelDriver$Serial" (1 : Nat) ({ cls := "java/lang/Object", name := "<init>", desc := "()V" } : Jvm.MethodName)) ∈ lw_all := sorry
theorem q903 : (Jvm.Cond.fieldLink "LabelDriver$Serial" (7 : Nat) "LabelDriver$Serial" "batch" "I") ∈ lw_all := sorry
theorem q905 : (Jvm.Cond.fieldLink "LabelDriver$Serial" (13 : Nat) "LabelDriver$Serial" "serial" "I") ∈ lw_all := sorry
theorem q907 : (Jvm.Cond.laysFinal "LabelDriver$Serial" "LabelDriver$Serial" "batch" "I") ∈ lw_all := sorry
theorem q908 : (Jvm.Cond.soleField "LabelDriver$Serial" "batch") ∈ lw_all := sorry
theorem q909 : (Jvm.Cond.laysFinal "LabelDriver$Serial" "LabelDriver$Serial" "serial" "I") ∈ lw_all := sorry
theorem q910 : (Jvm.Cond.soleField "LabelDriver$Serial" "serial") ∈ lw_all := sorry
theorem q911 : (Jvm.Cond.superclass "LabelDriver$Serial" "java/lang/Object") ∈ lw_all := sorry
theorem q1294 : (Jvm.Cond.selects "LabelDriver$Serial" ({ cls := "java/lang/Object", name := "getClass", desc := "()Ljava/lang/Class;" } : Jvm.MethodName) ({ cls := "java/lang/Object", name := "getClass", desc := "()Ljava/lang/Class;" } : Jvm.MethodName)) ∈ lw_all := sorry
theorem q1904 : (Jvm.Cond.instanceMethod ({ cls := "LabelDriver$Serial", name := "isSame", desc := "(LLabelDriver$Serial;)Z" } : Jvm.MethodName)) ∈ lw_all := sorry
theorem q1905 : (Jvm.Cond.selects "LabelDriver$Serial" ({ cls := "LabelDriver$Serial", name := "isSame", desc := "(LLabelDriver$Serial;)Z" } : Jvm.MethodName) ({ cls := "LabelDriver$Serial", name := "isSame", desc := "(LLabelDriver$Serial;)Z" } : Jvm.MethodName)) ∈ lw_all := sorry
theorem q1906 : (Jvm.Cond.code ({ cls := "LabelDriver$Serial", name := "isSame", desc := "(LLabelDriver$Serial;)Z" } : Jvm.MethodName) prog_9_method_4_code (2 : Nat) (Option.some Jvm.ClassFile.FieldType.boolean)) ∈ lw_all := sorry
theorem q1907 : (Jvm.Cond.methodLink "LabelDriver$Serial" (19 : Nat) ({ cls := "LabelDriver$Serial", name := "code", desc := "()I" } : Jvm.MethodName)) ∈ lw_all := sorry
theorem q2021 : (Jvm.Cond.instanceMethod ({ cls := "LabelDriver$Serial", name := "<init>", desc := "(I)V" } : Jvm.MethodName)) ∈ lw_all := sorry
theorem q2022 : (Jvm.Cond.code ({ cls := "LabelDriver$Serial", name := "<init>", desc := "(I)V" } : Jvm.MethodName) prog_9_method_2_code (2 : Nat) (Option.none : Option Jvm.ClassFile.FieldType)) ∈ lw_all := sorry
theorem q2023 : (Jvm.Cond.methodLink "LabelDriver$Serial" (16 : Nat) ({ cls := "LabelDriver$Serial", name := "<init>", desc := "(II)V" } : Jvm.MethodName)) ∈ lw_all := sorry
theorem q2661 : (Jvm.Cond.castable "LabelDriver$Serial" "java/lang/Object") ∈ lw_tbl := sorry
theorem in_X14 : ∀ w ∈ wsX140, w ∈ lw_all := sorry
/-! LabelDriver$RibbonOut -/
set_option maxRecDepth 100000
def RX15 : String := "LabelDriver$RibbonOut"
def TX15 : u_T := fun k => match k with
  | 0 => ("LabelDriver$Trouble", "code", "I", true)
  | 1 => ("java/lang/Throwable", "cause", "Ljava/lang/Throwable;", false)
  | 2 => ("java/lang/Throwable", "stackTrace", "[Ljava/lang/StackTraceElement;", false)
  | 3 => ("java/lang/Throwable", "suppressedExceptions", "Ljava/util/List;", false)
  | 4 => ("java/lang/Throwable", "detailMessage", "Ljava/lang/String;", false)
  | 5 => ("java/lang/Throwable", "backtrace", "Ljava/lang/Object;", false)
  | _ => ("java/lang/Throwable", "depth", "I", false)
def tyX15 : Nat → FieldType := fun k => match k with
  | 0 => .int
  | 1 => .object "java/lang/Throwable"
  | 2 => .array (.object "java/lang/StackTraceElement")
  | 3 => .object "java/util/List"
  | 4 => .object "java/lang/String"
  | 5 => .object "java/lang/Object"
  | _ => .int
abbrev wsX150 : List Cond := u_ws RX15 TX15 7
theorem nmX15 : ∀ a, a < 7 → ∀ b, b < 7 → a ≠ b → (TX15 a).2.1 ≠ (TX15 b).2.1 := sorry
theorem tyX15_ok : ∀ k, k < 7 → parseFieldDescriptor (TX15 k).2.2.1 = some (tyX15 k) := sorry
abbrev cX15_init : ByteArray := prog_7_method_1_code
def yX15_init : MethodName := ⟨RX15, "<init>", "()V"⟩
def dkwX15_init_0 : List UInt8 := [42, 4, 1, 183, 0, 3, 177]
abbrev dktX15_init_0 : List UInt8 := dkwX15_init_0 ++ []
theorem dksX15_init_0 : cX15_init.data.toList.drop 0 = dktX15_init_0 := sorry
theorem dX15_init_0 : decode cX15_init 0 = .ok (.aload_n 0, 1) := sorry
theorem dX15_init_1 : decode cX15_init 1 = .ok (.iconst 1, 1) := sorry
theorem dX15_init_2 : decode cX15_init 2 = .ok (.aconst_null, 1) := sorry
theorem dX15_init_3 : decode cX15_init 3 = .ok (.invokespecial 3, 3) := sorry
theorem dX15_init_6 : decode cX15_init 6 = .ok (.return_, 1) := sorry
theorem q125 : (Jvm.Cond.initialized "LabelDriver$RibbonOut") ∈ lw_all := sorry
theorem q213 : (Jvm.Cond.selects "LabelDriver$RibbonOut" ({ cls := "java/lang/Throwable", name := "fillInStackTrace", desc := "()Ljava/lang/Throwable;" } : Jvm.MethodName) ({ cls := "java/lang/Throwable", name := "fillInStackTrace", desc := "()Ljava/lang/Throwable;" } : Jvm.MethodName)) ∈ lw_all := sorry
theorem q1292 : (Jvm.Cond.selects "LabelDriver$RibbonOut" ({ cls := "java/lang/Object", name := "getClass", desc := "()Ljava/lang/Class;" } : Jvm.MethodName) ({ cls := "java/lang/Object", name := "getClass", desc := "()Ljava/lang/Class;" } : Jvm.MethodName)) ∈ lw_all := sorry
theorem q1831 : (Jvm.Cond.instantiable "LabelDriver$RibbonOut" (7 : Nat)) ∈ lw_all := sorry
theorem q1832 : (Jvm.Cond.castable "LabelDriver$RibbonOut" "LabelDriver$RibbonOut") ∈ lw_tbl := sorry
theorem q1833 : (Jvm.Cond.selects "LabelDriver$RibbonOut" ({ cls := "java/lang/Throwable", name := "fillInStackTrace", desc := "(I)Ljava/lang/Throwable;" } : Jvm.MethodName) ({ cls := "java/lang/Throwable", name := "fillInStackTrace", desc := "(I)Ljava/lang/Throwable;" } : Jvm.MethodName)) ∈ lw_all := sorry
theorem q1834 : (Jvm.Cond.lays "LabelDriver$RibbonOut" "java/lang/Throwable" "cause" "Ljava/lang/Throwable;") ∈ lw_all := sorry
theorem q1835 : (Jvm.Cond.lays "LabelDriver$RibbonOut" "java/lang/Throwable" "stackTrace" "[Ljava/lang/StackTraceElement;") ∈ lw_all := sorry
theorem q1836 : (Jvm.Cond.lays "LabelDriver$RibbonOut" "java/lang/Throwable" "suppressedExceptions" "Ljava/util/List;") ∈ lw_all := sorry
theorem q1837 : (Jvm.Cond.lays "LabelDriver$RibbonOut" "java/lang/Throwable" "detailMessage" "Ljava/lang/String;") ∈ lw_all := sorry
theorem q1838 : (Jvm.Cond.lays "LabelDriver$RibbonOut" "java/lang/Throwable" "backtrace" "Ljava/lang/Object;") ∈ lw_all := sorry
theorem q1840 : (Jvm.Cond.instanceMethod ({ cls := "LabelDriver$RibbonOut", name := "<init>", desc := "()V" } : Jvm.MethodName)) ∈ lw_all := sorry
theorem q1841 : (Jvm.Cond.code ({ cls := "LabelDriver$RibbonOut", name := "<init>", desc := "()V" } : Jvm.MethodName) prog_7_method_1_code (1 : Nat) (Option.none : Option Jvm.ClassFile.FieldType)) ∈ lw_all := sorry
theorem q1842 : (Jvm.Cond.methodLink "LabelDriver$RibbonOut" (3 : Nat) ({ cls := "LabelDriver$Trouble", name := "<init>", desc := "(ILjava/lang/Exception;)V" } : Jvm.MethodName)) ∈ lw_all := sorry
theorem q1843 : (Jvm.Cond.laysFinal "LabelDriver$RibbonOut" "LabelDriver$Trouble" "code" "I") ∈ lw_all := sorry
theorem q1844 : (Jvm.Cond.lays "LabelDriver$RibbonOut" "java/lang/Throwable" "depth" "I") ∈ lw_all := sorry
theorem q1845 : (Jvm.Cond.superclass "LabelDriver$RibbonOut" "LabelDriver$Trouble") ∈ lw_all := sorry
theorem q1866 : (Jvm.Cond.selects "LabelDriver$RibbonOut" ({ cls := "LabelDriver$Trouble", name := "getCause", desc := "()Ljava/lang/Throwable;" } : Jvm.MethodName) ({ cls := "java/lang/Throwable", name := "getCause", desc := "()Ljava/lang/Throwable;" } : Jvm.MethodName)) ∈ lw_all := sorry
theorem q2635 : (Jvm.Cond.castable "LabelDriver$RibbonOut" "LabelDriver$Trouble") ∈ lw_tbl := sorry
theorem q2662 : (Jvm.Cond.castable "LabelDriver$RibbonOut" "java/lang/Object") ∈ lw_tbl := sorry
theorem in_X15 : ∀ w ∈ wsX150, w ∈ lw_all := sorry
