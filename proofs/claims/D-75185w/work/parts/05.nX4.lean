/-! LabelDriverModel -/
set_option maxRecDepth 100000
def RX4 : String := "LabelDriverModel"
def TX4 : u_T := fun k => match k with
  | 0 => ("LabelDriverModel", "thrown", "I", false)
  | 1 => ("LabelDriverModel", "s", "[I", true)
  | 2 => ("LabelDriverModel", "history", "[I", true)
  | 3 => ("LabelDriverModel", "aside", "[I", true)
  | 4 => ("LabelDriverModel", "recorded", "I", false)
  | 5 => ("LabelDriverModel", "sensor", "I", false)
  | 6 => ("LabelDriverModel", "edge", "I", false)
  | 7 => ("LabelDriverModel", "tolerance", "I", false)
  | 8 => ("LabelDriverModel", "top", "I", false)
  | 9 => ("LabelDriverModel", "height", "I", false)
  | 10 => ("LabelDriverModel", "batches", "I", false)
  | 11 => ("LabelDriverModel", "name", "[J", true)
  | 12 => ("LabelDriverModel", "first", "[I", true)
  | 13 => ("LabelDriverModel", "count", "[I", true)
  | 14 => ("LabelDriverModel", "step", "[I", true)
  | 15 => ("LabelDriverModel", "width", "[I", true)
  | 16 => ("LabelDriverModel", "checks", "[Z", true)
  | 17 => ("LabelDriverModel", "again", "[Z", true)
  | 18 => ("LabelDriverModel", "begin", "[I", true)
  | 19 => ("LabelDriverModel", "buffer", "[B", true)
  | 20 => ("LabelDriverModel", "buffered", "I", false)
  | 21 => ("LabelDriverModel", "length", "I", false)
  | 22 => ("LabelDriverModel", "at", "I", false)
  | 23 => ("LabelDriverModel", "error", "I", false)
  | 24 => ("LabelDriverModel", "kind", "I", false)
  | 25 => ("LabelDriverModel", "press", "[I", true)
  | 26 => ("LabelDriverModel", "newBatches", "I", false)
  | 27 => ("LabelDriverModel", "newName", "[J", true)
  | 28 => ("LabelDriverModel", "newFirst", "[I", true)
  | 29 => ("LabelDriverModel", "newCount", "[I", true)
  | 30 => ("LabelDriverModel", "newStep", "[I", true)
  | 31 => ("LabelDriverModel", "newWidth", "[I", true)
  | 32 => ("LabelDriverModel", "newChecks", "[Z", true)
  | 33 => ("LabelDriverModel", "newAgain", "[Z", true)
  | 34 => ("LabelDriverModel", "formatted", "[I", true)
  | _ => ("LabelDriverModel", "formattedLength", "I", false)
def tyX4 : Nat → FieldType := fun k => match k with
  | 0 => .int
  | 1 => .array .int
  | 2 => .array .int
  | 3 => .array .int
  | 4 => .int
  | 5 => .int
  | 6 => .int
  | 7 => .int
  | 8 => .int
  | 9 => .int
  | 10 => .int
  | 11 => .array .long
  | 12 => .array .int
  | 13 => .array .int
  | 14 => .array .int
  | 15 => .array .int
  | 16 => .array .boolean
  | 17 => .array .boolean
  | 18 => .array .int
  | 19 => .array .byte
  | 20 => .int
  | 21 => .int
  | 22 => .int
  | 23 => .int
  | 24 => .int
  | 25 => .array .int
  | 26 => .int
  | 27 => .array .long
  | 28 => .array .int
  | 29 => .array .int
  | 30 => .array .int
  | 31 => .array .int
  | 32 => .array .boolean
  | 33 => .array .boolean
  | 34 => .array .int
  | _ => .int
abbrev wsX40 : List Cond := u_ws RX4 TX4 36
set_option maxRecDepth 100000 in
theorem nmX4 : ∀ a, a < 36 → ∀ b, b < 36 → a ≠ b → (TX4 a).2.1 ≠ (TX4 b).2.1 := sorry
set_option maxRecDepth 100000 in
theorem tyX4_ok : ∀ k, k < 36 → parseFieldDescriptor (TX4 k).2.2.1 = some (tyX4 k) := sorry
abbrev cX4_init : ByteArray := prog_16_method_1_code
def yX4_init : MethodName := ⟨RX4, "<init>", "()V"⟩
def dkwX4_init_8 : List UInt8 := [42, 16, 6, 188, 4, 181, 0, 86, 42, 16, 120, 188, 10, 181, 0, 89, 177]
abbrev dktX4_init_8 : List UInt8 := dkwX4_init_8 ++ []
def dkwX4_init_7 : List UInt8 := [42, 16, 6, 188, 10, 181, 0, 77, 42, 16, 6, 188, 10, 181, 0, 80, 42, 16, 6, 188, 4, 181, 0, 83]
abbrev dktX4_init_7 : List UInt8 := dkwX4_init_7 ++ dktX4_init_8
def dkwX4_init_6 : List UInt8 := [42, 16, 6, 188, 11, 181, 0, 68, 42, 16, 6, 188, 10, 181, 0, 71, 42, 16, 6, 188, 10, 181, 0, 74]
abbrev dktX4_init_6 : List UInt8 := dkwX4_init_6 ++ dktX4_init_7
def dkwX4_init_5 : List UInt8 := [181, 0, 55, 42, 17, 2, 88, 188, 8, 181, 0, 58, 42, 2, 181, 0, 62, 42, 8, 188, 10, 181, 0, 65]
abbrev dktX4_init_5 : List UInt8 := dkwX4_init_5 ++ dktX4_init_6
def dkwX4_init_4 : List UInt8 := [181, 0, 45, 42, 16, 6, 188, 4, 181, 0, 48, 42, 16, 6, 188, 4, 181, 0, 52, 42, 16, 100, 188, 10]
abbrev dktX4_init_4 : List UInt8 := dkwX4_init_4 ++ dktX4_init_5
def dkwX4_init_3 : List UInt8 := [181, 0, 36, 42, 16, 6, 188, 10, 181, 0, 39, 42, 16, 6, 188, 10, 181, 0, 42, 42, 16, 6, 188, 10]
abbrev dktX4_init_3 : List UInt8 := dkwX4_init_3 ++ dktX4_init_4
def dkwX4_init_2 : List UInt8 := [181, 0, 26, 42, 16, 20, 181, 0, 29, 42, 16, 6, 188, 11, 181, 0, 32, 42, 16, 6, 188, 10]
abbrev dktX4_init_2 : List UInt8 := dkwX4_init_2 ++ dktX4_init_3
def dkwX4_init_1 : List UInt8 := [17, 3, 173, 188, 10, 181, 0, 16, 42, 16, 50, 181, 0, 19, 42, 16, 40, 181, 0, 23, 42, 8]
abbrev dktX4_init_1 : List UInt8 := dkwX4_init_1 ++ dktX4_init_2
def dkwX4_init_0 : List UInt8 := [42, 183, 0, 1, 42, 17, 3, 173, 188, 10, 181, 0, 7, 42, 17, 29, 104, 188, 10, 181, 0, 13, 42]
abbrev dktX4_init_0 : List UInt8 := dkwX4_init_0 ++ dktX4_init_1
theorem dksX4_init_0 : cX4_init.data.toList.drop 0 = dktX4_init_0 := sorry
theorem dksX4_init_1 : cX4_init.data.toList.drop 23 = dktX4_init_1 := sorry
theorem dksX4_init_2 : cX4_init.data.toList.drop 45 = dktX4_init_2 := sorry
theorem dksX4_init_3 : cX4_init.data.toList.drop 67 = dktX4_init_3 := sorry
theorem dksX4_init_4 : cX4_init.data.toList.drop 91 = dktX4_init_4 := sorry
theorem dksX4_init_5 : cX4_init.data.toList.drop 115 = dktX4_init_5 := sorry
theorem dksX4_init_6 : cX4_init.data.toList.drop 139 = dktX4_init_6 := sorry
theorem dksX4_init_7 : cX4_init.data.toList.drop 163 = dktX4_init_7 := sorry
theorem dksX4_init_8 : cX4_init.data.toList.drop 187 = dktX4_init_8 := sorry
theorem dX4_init_0 : decode cX4_init 0 = .ok (.aload_n 0, 1) := sorry
theorem dX4_init_1 : decode cX4_init 1 = .ok (.invokespecial 1, 3) := sorry
theorem dX4_init_4 : decode cX4_init 4 = .ok (.aload_n 0, 1) := sorry
theorem dX4_init_5 : decode cX4_init 5 = .ok (.sipush 941, 3) := sorry
theorem dX4_init_8 : decode cX4_init 8 = .ok (.newarray .int, 2) := sorry
theorem dX4_init_10 : decode cX4_init 10 = .ok (.putfield 7, 3) := sorry
theorem dX4_init_13 : decode cX4_init 13 = .ok (.aload_n 0, 1) := sorry
theorem dX4_init_14 : decode cX4_init 14 = .ok (.sipush 7528, 3) := sorry
theorem dX4_init_17 : decode cX4_init 17 = .ok (.newarray .int, 2) := sorry
theorem dX4_init_19 : decode cX4_init 19 = .ok (.putfield 13, 3) := sorry
theorem dX4_init_22 : decode cX4_init 22 = .ok (.aload_n 0, 1) := sorry
theorem dX4_init_23 : decode cX4_init 23 = .ok (.sipush 941, 3) := sorry
theorem dX4_init_26 : decode cX4_init 26 = .ok (.newarray .int, 2) := sorry
theorem dX4_init_28 : decode cX4_init 28 = .ok (.putfield 16, 3) := sorry
theorem dX4_init_31 : decode cX4_init 31 = .ok (.aload_n 0, 1) := sorry
theorem dX4_init_32 : decode cX4_init 32 = .ok (.bipush 50, 2) := sorry
theorem dX4_init_34 : decode cX4_init 34 = .ok (.putfield 19, 3) := sorry
theorem dX4_init_37 : decode cX4_init 37 = .ok (.aload_n 0, 1) := sorry
theorem dX4_init_38 : decode cX4_init 38 = .ok (.bipush 40, 2) := sorry
theorem dX4_init_40 : decode cX4_init 40 = .ok (.putfield 23, 3) := sorry
theorem dX4_init_43 : decode cX4_init 43 = .ok (.aload_n 0, 1) := sorry
theorem dX4_init_44 : decode cX4_init 44 = .ok (.iconst 5, 1) := sorry
theorem dX4_init_45 : decode cX4_init 45 = .ok (.putfield 26, 3) := sorry
theorem dX4_init_48 : decode cX4_init 48 = .ok (.aload_n 0, 1) := sorry
theorem dX4_init_49 : decode cX4_init 49 = .ok (.bipush 20, 2) := sorry
theorem dX4_init_51 : decode cX4_init 51 = .ok (.putfield 29, 3) := sorry
theorem dX4_init_54 : decode cX4_init 54 = .ok (.aload_n 0, 1) := sorry
theorem dX4_init_55 : decode cX4_init 55 = .ok (.bipush 6, 2) := sorry
theorem dX4_init_57 : decode cX4_init 57 = .ok (.newarray .long, 2) := sorry
theorem dX4_init_59 : decode cX4_init 59 = .ok (.putfield 32, 3) := sorry
theorem dX4_init_62 : decode cX4_init 62 = .ok (.aload_n 0, 1) := sorry
theorem dX4_init_63 : decode cX4_init 63 = .ok (.bipush 6, 2) := sorry
theorem dX4_init_65 : decode cX4_init 65 = .ok (.newarray .int, 2) := sorry
theorem dX4_init_67 : decode cX4_init 67 = .ok (.putfield 36, 3) := sorry
theorem dX4_init_70 : decode cX4_init 70 = .ok (.aload_n 0, 1) := sorry
theorem dX4_init_71 : decode cX4_init 71 = .ok (.bipush 6, 2) := sorry
theorem dX4_init_73 : decode cX4_init 73 = .ok (.newarray .int, 2) := sorry
theorem dX4_init_75 : decode cX4_init 75 = .ok (.putfield 39, 3) := sorry
theorem dX4_init_78 : decode cX4_init 78 = .ok (.aload_n 0, 1) := sorry
theorem dX4_init_79 : decode cX4_init 79 = .ok (.bipush 6, 2) := sorry
theorem dX4_init_81 : decode cX4_init 81 = .ok (.newarray .int, 2) := sorry
theorem dX4_init_83 : decode cX4_init 83 = .ok (.putfield 42, 3) := sorry
theorem dX4_init_86 : decode cX4_init 86 = .ok (.aload_n 0, 1) := sorry
theorem dX4_init_87 : decode cX4_init 87 = .ok (.bipush 6, 2) := sorry
theorem dX4_init_89 : decode cX4_init 89 = .ok (.newarray .int, 2) := sorry
theorem dX4_init_91 : decode cX4_init 91 = .ok (.putfield 45, 3) := sorry
theorem dX4_init_94 : decode cX4_init 94 = .ok (.aload_n 0, 1) := sorry
theorem dX4_init_95 : decode cX4_init 95 = .ok (.bipush 6, 2) := sorry
theorem dX4_init_97 : decode cX4_init 97 = .ok (.newarray .boolean, 2) := sorry
theorem dX4_init_99 : decode cX4_init 99 = .ok (.putfield 48, 3) := sorry
theorem dX4_init_102 : decode cX4_init 102 = .ok (.aload_n 0, 1) := sorry
theorem dX4_init_103 : decode cX4_init 103 = .ok (.bipush 6, 2) := sorry
theorem dX4_init_105 : decode cX4_init 105 = .ok (.newarray .boolean, 2) := sorry
theorem dX4_init_107 : decode cX4_init 107 = .ok (.putfield 52, 3) := sorry
theorem dX4_init_110 : decode cX4_init 110 = .ok (.aload_n 0, 1) := sorry
theorem dX4_init_111 : decode cX4_init 111 = .ok (.bipush 100, 2) := sorry
theorem dX4_init_113 : decode cX4_init 113 = .ok (.newarray .int, 2) := sorry
theorem dX4_init_115 : decode cX4_init 115 = .ok (.putfield 55, 3) := sorry
theorem dX4_init_118 : decode cX4_init 118 = .ok (.aload_n 0, 1) := sorry
theorem dX4_init_119 : decode cX4_init 119 = .ok (.sipush 600, 3) := sorry
theorem dX4_init_122 : decode cX4_init 122 = .ok (.newarray .byte, 2) := sorry
theorem dX4_init_124 : decode cX4_init 124 = .ok (.putfield 58, 3) := sorry
theorem dX4_init_127 : decode cX4_init 127 = .ok (.aload_n 0, 1) := sorry
theorem dX4_init_128 : decode cX4_init 128 = .ok (.iconst (-1), 1) := sorry
theorem dX4_init_129 : decode cX4_init 129 = .ok (.putfield 62, 3) := sorry
theorem dX4_init_132 : decode cX4_init 132 = .ok (.aload_n 0, 1) := sorry
theorem dX4_init_133 : decode cX4_init 133 = .ok (.iconst 5, 1) := sorry
theorem dX4_init_134 : decode cX4_init 134 = .ok (.newarray .int, 2) := sorry
theorem dX4_init_136 : decode cX4_init 136 = .ok (.putfield 65, 3) := sorry
theorem dX4_init_139 : decode cX4_init 139 = .ok (.aload_n 0, 1) := sorry
theorem dX4_init_140 : decode cX4_init 140 = .ok (.bipush 6, 2) := sorry
theorem dX4_init_142 : decode cX4_init 142 = .ok (.newarray .long, 2) := sorry
theorem dX4_init_144 : decode cX4_init 144 = .ok (.putfield 68, 3) := sorry
theorem dX4_init_147 : decode cX4_init 147 = .ok (.aload_n 0, 1) := sorry
theorem dX4_init_148 : decode cX4_init 148 = .ok (.bipush 6, 2) := sorry
theorem dX4_init_150 : decode cX4_init 150 = .ok (.newarray .int, 2) := sorry
theorem dX4_init_152 : decode cX4_init 152 = .ok (.putfield 71, 3) := sorry
theorem dX4_init_155 : decode cX4_init 155 = .ok (.aload_n 0, 1) := sorry
theorem dX4_init_156 : decode cX4_init 156 = .ok (.bipush 6, 2) := sorry
theorem dX4_init_158 : decode cX4_init 158 = .ok (.newarray .int, 2) := sorry
theorem dX4_init_160 : decode cX4_init 160 = .ok (.putfield 74, 3) := sorry
theorem dX4_init_163 : decode cX4_init 163 = .ok (.aload_n 0, 1) := sorry
theorem dX4_init_164 : decode cX4_init 164 = .ok (.bipush 6, 2) := sorry
theorem dX4_init_166 : decode cX4_init 166 = .ok (.newarray .int, 2) := sorry
theorem dX4_init_168 : decode cX4_init 168 = .ok (.putfield 77, 3) := sorry
theorem dX4_init_171 : decode cX4_init 171 = .ok (.aload_n 0, 1) := sorry
theorem dX4_init_172 : decode cX4_init 172 = .ok (.bipush 6, 2) := sorry
theorem dX4_init_174 : decode cX4_init 174 = .ok (.newarray .int, 2) := sorry
theorem dX4_init_176 : decode cX4_init 176 = .ok (.putfield 80, 3) := sorry
theorem dX4_init_179 : decode cX4_init 179 = .ok (.aload_n 0, 1) := sorry
theorem dX4_init_180 : decode cX4_init 180 = .ok (.bipush 6, 2) := sorry
theorem dX4_init_182 : decode cX4_init 182 = .ok (.newarray .boolean, 2) := sorry
theorem dX4_init_184 : decode cX4_init 184 = .ok (.putfield 83, 3) := sorry
theorem dX4_init_187 : decode cX4_init 187 = .ok (.aload_n 0, 1) := sorry
theorem dX4_init_188 : decode cX4_init 188 = .ok (.bipush 6, 2) := sorry
theorem dX4_init_190 : decode cX4_init 190 = .ok (.newarray .boolean, 2) := sorry
theorem dX4_init_192 : decode cX4_init 192 = .ok (.putfield 86, 3) := sorry
theorem dX4_init_195 : decode cX4_init 195 = .ok (.aload_n 0, 1) := sorry
theorem dX4_init_196 : decode cX4_init 196 = .ok (.bipush 120, 2) := sorry
theorem dX4_init_198 : decode cX4_init 198 = .ok (.newarray .int, 2) := sorry
theorem dX4_init_200 : decode cX4_init 200 = .ok (.putfield 89, 3) := sorry
theorem dX4_init_203 : decode cX4_init 203 = .ok (.return_, 1) := sorry
abbrev cX4_thrown : ByteArray := prog_16_method_2_code
def yX4_thrown : MethodName := ⟨RX4, "thrown", "()I"⟩
theorem dX4_thrown_0 : decode cX4_thrown 0 = .ok (.aload_n 0, 1) := sorry
theorem dX4_thrown_1 : decode cX4_thrown 1 = .ok (.getfield 92, 3) := sorry
theorem dX4_thrown_4 : decode cX4_thrown 4 = .ok (.ireturn, 1) := sorry
abbrev cX4_append : ByteArray := prog_16_method_6_code
def yX4_append : MethodName := ⟨RX4, "append", "(IIIII)I"⟩
def dkwX4_append_5 : List UInt8 := [180, 0, 95, 172]
abbrev dktX4_append_5 : List UInt8 := dkwX4_append_5 ++ []
def dkwX4_append_4 : List UInt8 := [112, 104, 100, 122, 145, 84, 42, 89, 180, 0, 95, 4, 96, 181, 0, 95, 132, 6, 1, 167, 255, 165, 42]
abbrev dktX4_append_4 : List UInt8 := dkwX4_append_4 ++ dktX4_append_5
def dkwX4_append_3 : List UInt8 := [167, 0, 5, 21, 5, 54, 7, 42, 180, 0, 58, 42, 180, 0, 95, 21, 7, 16, 24, 16, 8, 21, 6, 7]
abbrev dktX4_append_3 : List UInt8 := dkwX4_append_3 ++ dktX4_append_4
def dkwX4_append_2 : List UInt8 := [28, 167, 0, 28, 21, 6, 16, 12, 162, 0, 7, 29, 167, 0, 17, 21, 6, 16, 16, 162, 0, 8, 21, 4]
abbrev dktX4_append_2 : List UInt8 := dkwX4_append_2 ++ dktX4_append_3
def dkwX4_append_1 : List UInt8 := [21, 6, 16, 20, 162, 0, 90, 21, 6, 7, 162, 0, 7, 27, 167, 0, 39, 21, 6, 16, 8, 162, 0, 7]
abbrev dktX4_append_1 : List UInt8 := dkwX4_append_1 ++ dktX4_append_2
def dkwX4_append_0 : List UInt8 := [42, 3, 181, 0, 92, 42, 180, 0, 95, 16, 20, 96, 17, 2, 88, 164, 0, 5, 2, 172, 3, 54, 6]
abbrev dktX4_append_0 : List UInt8 := dkwX4_append_0 ++ dktX4_append_1
theorem dksX4_append_0 : cX4_append.data.toList.drop 0 = dktX4_append_0 := sorry
theorem dksX4_append_1 : cX4_append.data.toList.drop 23 = dktX4_append_1 := sorry
theorem dksX4_append_2 : cX4_append.data.toList.drop 47 = dktX4_append_2 := sorry
theorem dksX4_append_3 : cX4_append.data.toList.drop 71 = dktX4_append_3 := sorry
theorem dksX4_append_4 : cX4_append.data.toList.drop 95 = dktX4_append_4 := sorry
theorem dksX4_append_5 : cX4_append.data.toList.drop 118 = dktX4_append_5 := sorry
theorem dX4_append_0 : decode cX4_append 0 = .ok (.aload_n 0, 1) := sorry
theorem dX4_append_1 : decode cX4_append 1 = .ok (.iconst 0, 1) := sorry
theorem dX4_append_2 : decode cX4_append 2 = .ok (.putfield 92, 3) := sorry
theorem dX4_append_5 : decode cX4_append 5 = .ok (.aload_n 0, 1) := sorry
theorem dX4_append_6 : decode cX4_append 6 = .ok (.getfield 95, 3) := sorry
theorem dX4_append_9 : decode cX4_append 9 = .ok (.bipush 20, 2) := sorry
theorem dX4_append_11 : decode cX4_append 11 = .ok (.iadd, 1) := sorry
theorem dX4_append_12 : decode cX4_append 12 = .ok (.sipush 600, 3) := sorry
theorem dX4_append_15 : decode cX4_append 15 = .ok (.if_icmp .le 5, 3) := sorry
theorem dX4_append_18 : decode cX4_append 18 = .ok (.iconst (-1), 1) := sorry
theorem dX4_append_19 : decode cX4_append 19 = .ok (.ireturn, 1) := sorry
theorem dX4_append_20 : decode cX4_append 20 = .ok (.iconst 0, 1) := sorry
theorem dX4_append_21 : decode cX4_append 21 = .ok (.istore 6, 2) := sorry
theorem dX4_append_23 : decode cX4_append 23 = .ok (.iload 6, 2) := sorry
theorem dX4_append_25 : decode cX4_append 25 = .ok (.bipush 20, 2) := sorry
theorem dX4_append_27 : decode cX4_append 27 = .ok (.if_icmp .ge 90, 3) := sorry
theorem dX4_append_30 : decode cX4_append 30 = .ok (.iload 6, 2) := sorry
theorem dX4_append_32 : decode cX4_append 32 = .ok (.iconst 4, 1) := sorry
theorem dX4_append_33 : decode cX4_append 33 = .ok (.if_icmp .ge 7, 3) := sorry
theorem dX4_append_36 : decode cX4_append 36 = .ok (.iload_n 1, 1) := sorry
theorem dX4_append_37 : decode cX4_append 37 = .ok (.goto 39, 3) := sorry
theorem dX4_append_40 : decode cX4_append 40 = .ok (.iload 6, 2) := sorry
theorem dX4_append_42 : decode cX4_append 42 = .ok (.bipush 8, 2) := sorry
theorem dX4_append_44 : decode cX4_append 44 = .ok (.if_icmp .ge 7, 3) := sorry
theorem dX4_append_47 : decode cX4_append 47 = .ok (.iload_n 2, 1) := sorry
theorem dX4_append_48 : decode cX4_append 48 = .ok (.goto 28, 3) := sorry
theorem dX4_append_51 : decode cX4_append 51 = .ok (.iload 6, 2) := sorry
theorem dX4_append_53 : decode cX4_append 53 = .ok (.bipush 12, 2) := sorry
theorem dX4_append_55 : decode cX4_append 55 = .ok (.if_icmp .ge 7, 3) := sorry
theorem dX4_append_58 : decode cX4_append 58 = .ok (.iload_n 3, 1) := sorry
theorem dX4_append_59 : decode cX4_append 59 = .ok (.goto 17, 3) := sorry
theorem dX4_append_62 : decode cX4_append 62 = .ok (.iload 6, 2) := sorry
theorem dX4_append_64 : decode cX4_append 64 = .ok (.bipush 16, 2) := sorry
theorem dX4_append_66 : decode cX4_append 66 = .ok (.if_icmp .ge 8, 3) := sorry
theorem dX4_append_69 : decode cX4_append 69 = .ok (.iload 4, 2) := sorry
theorem dX4_append_71 : decode cX4_append 71 = .ok (.goto 5, 3) := sorry
theorem dX4_append_74 : decode cX4_append 74 = .ok (.iload 5, 2) := sorry
theorem dX4_append_76 : decode cX4_append 76 = .ok (.istore 7, 2) := sorry
theorem dX4_append_78 : decode cX4_append 78 = .ok (.aload_n 0, 1) := sorry
theorem dX4_append_79 : decode cX4_append 79 = .ok (.getfield 58, 3) := sorry
theorem dX4_append_82 : decode cX4_append 82 = .ok (.aload_n 0, 1) := sorry
theorem dX4_append_83 : decode cX4_append 83 = .ok (.getfield 95, 3) := sorry
theorem dX4_append_86 : decode cX4_append 86 = .ok (.iload 7, 2) := sorry
theorem dX4_append_88 : decode cX4_append 88 = .ok (.bipush 24, 2) := sorry
theorem dX4_append_90 : decode cX4_append 90 = .ok (.bipush 8, 2) := sorry
theorem dX4_append_92 : decode cX4_append 92 = .ok (.iload 6, 2) := sorry
theorem dX4_append_94 : decode cX4_append 94 = .ok (.iconst 4, 1) := sorry
theorem dX4_append_95 : decode cX4_append 95 = .ok (.irem, 1) := sorry
theorem dX4_append_96 : decode cX4_append 96 = .ok (.imul, 1) := sorry
theorem dX4_append_97 : decode cX4_append 97 = .ok (.isub, 1) := sorry
theorem dX4_append_98 : decode cX4_append 98 = .ok (.ishr, 1) := sorry
theorem dX4_append_99 : decode cX4_append 99 = .ok (.i2b, 1) := sorry
theorem dX4_append_100 : decode cX4_append 100 = .ok (.bastore, 1) := sorry
theorem dX4_append_101 : decode cX4_append 101 = .ok (.aload_n 0, 1) := sorry
theorem dX4_append_102 : decode cX4_append 102 = .ok (.dup, 1) := sorry
theorem dX4_append_103 : decode cX4_append 103 = .ok (.getfield 95, 3) := sorry
theorem dX4_append_106 : decode cX4_append 106 = .ok (.iconst 1, 1) := sorry
theorem dX4_append_107 : decode cX4_append 107 = .ok (.iadd, 1) := sorry
theorem dX4_append_108 : decode cX4_append 108 = .ok (.putfield 95, 3) := sorry
theorem dX4_append_111 : decode cX4_append 111 = .ok (.iinc 6 1, 3) := sorry
theorem dX4_append_114 : decode cX4_append 114 = .ok (.goto (-91), 3) := sorry
theorem dX4_append_117 : decode cX4_append 117 = .ok (.aload_n 0, 1) := sorry
theorem dX4_append_118 : decode cX4_append 118 = .ok (.getfield 95, 3) := sorry
theorem dX4_append_121 : decode cX4_append 121 = .ok (.ireturn, 1) := sorry
abbrev cX4_truncate : ByteArray := prog_16_method_7_code
def yX4_truncate : MethodName := ⟨RX4, "truncate", "(I)Z"⟩
def dkwX4_truncate_1 : List UInt8 := [4, 172]
abbrev dktX4_truncate_1 : List UInt8 := dkwX4_truncate_1 ++ []
def dkwX4_truncate_0 : List UInt8 := [42, 3, 181, 0, 92, 27, 155, 0, 11, 27, 42, 180, 0, 95, 164, 0, 5, 3, 172, 42, 27, 181, 0, 95]
abbrev dktX4_truncate_0 : List UInt8 := dkwX4_truncate_0 ++ dktX4_truncate_1
theorem dksX4_truncate_0 : cX4_truncate.data.toList.drop 0 = dktX4_truncate_0 := sorry
theorem dksX4_truncate_1 : cX4_truncate.data.toList.drop 24 = dktX4_truncate_1 := sorry
theorem dX4_truncate_0 : decode cX4_truncate 0 = .ok (.aload_n 0, 1) := sorry
theorem dX4_truncate_1 : decode cX4_truncate 1 = .ok (.iconst 0, 1) := sorry
theorem dX4_truncate_2 : decode cX4_truncate 2 = .ok (.putfield 92, 3) := sorry
theorem dX4_truncate_5 : decode cX4_truncate 5 = .ok (.iload_n 1, 1) := sorry
theorem dX4_truncate_6 : decode cX4_truncate 6 = .ok (.ifCond .lt 11, 3) := sorry
theorem dX4_truncate_9 : decode cX4_truncate 9 = .ok (.iload_n 1, 1) := sorry
theorem dX4_truncate_10 : decode cX4_truncate 10 = .ok (.aload_n 0, 1) := sorry
theorem dX4_truncate_11 : decode cX4_truncate 11 = .ok (.getfield 95, 3) := sorry
theorem dX4_truncate_14 : decode cX4_truncate 14 = .ok (.if_icmp .le 5, 3) := sorry
theorem dX4_truncate_17 : decode cX4_truncate 17 = .ok (.iconst 0, 1) := sorry
theorem dX4_truncate_18 : decode cX4_truncate 18 = .ok (.ireturn, 1) := sorry
theorem dX4_truncate_19 : decode cX4_truncate 19 = .ok (.aload_n 0, 1) := sorry
theorem dX4_truncate_20 : decode cX4_truncate 20 = .ok (.iload_n 1, 1) := sorry
theorem dX4_truncate_21 : decode cX4_truncate 21 = .ok (.putfield 95, 3) := sorry
theorem dX4_truncate_24 : decode cX4_truncate 24 = .ok (.iconst 1, 1) := sorry
theorem dX4_truncate_25 : decode cX4_truncate 25 = .ok (.ireturn, 1) := sorry
abbrev cX4_load : ByteArray := prog_16_method_21_code
def yX4_load : MethodName := ⟨RX4, "load", "()I"⟩
def dkwX4_load_8 : List UInt8 := [180, 0, 7, 27, 3, 79, 132, 1, 1, 167, 255, 239, 42, 3, 181, 0, 195, 42, 180, 0, 192, 172]
abbrev dktX4_load_8 : List UInt8 := dkwX4_load_8 ++ []
def dkwX4_load_7 : List UInt8 := [42, 180, 0, 86, 27, 51, 84, 132, 1, 1, 167, 255, 163, 3, 60, 27, 17, 3, 173, 162, 0, 16, 42]
abbrev dktX4_load_7 : List UInt8 := dkwX4_load_7 ++ dktX4_load_8
def dkwX4_load_6 : List UInt8 := [42, 180, 0, 80, 27, 46, 79, 42, 180, 0, 48, 27, 42, 180, 0, 83, 27, 51, 84, 42, 180, 0, 52, 27]
abbrev dktX4_load_6 : List UInt8 := dkwX4_load_6 ++ dktX4_load_7
def dkwX4_load_5 : List UInt8 := [42, 180, 0, 74, 27, 46, 79, 42, 180, 0, 42, 27, 42, 180, 0, 77, 27, 46, 79, 42, 180, 0, 45, 27]
abbrev dktX4_load_5 : List UInt8 := dkwX4_load_5 ++ dktX4_load_6
def dkwX4_load_4 : List UInt8 := [42, 180, 0, 68, 27, 47, 80, 42, 180, 0, 36, 27, 42, 180, 0, 71, 27, 46, 79, 42, 180, 0, 39, 27]
abbrev dktX4_load_4 : List UInt8 := dkwX4_load_4 ++ dktX4_load_5
def dkwX4_load_3 : List UInt8 := [181, 0, 29, 42, 42, 180, 0, 153, 181, 0, 192, 3, 60, 27, 16, 6, 162, 0, 93, 42, 180, 0, 32, 27]
abbrev dktX4_load_3 : List UInt8 := dkwX4_load_3 ++ dktX4_load_4
def dkwX4_load_2 : List UInt8 := [5, 46, 181, 0, 26, 42, 42, 180, 0, 65, 6, 46, 181, 0, 189, 42, 42, 180, 0, 65, 7, 46]
abbrev dktX4_load_2 : List UInt8 := dkwX4_load_2 ++ dktX4_load_3
def dkwX4_load_1 : List UInt8 := [42, 180, 0, 65, 3, 46, 181, 0, 19, 42, 42, 180, 0, 65, 4, 46, 181, 0, 23, 42, 42, 180, 0, 65]
abbrev dktX4_load_1 : List UInt8 := dkwX4_load_1 ++ dktX4_load_2
def dkwX4_load_0 : List UInt8 := [42, 3, 181, 0, 92, 42, 182, 0, 186, 42, 182, 0, 122, 153, 0, 10, 42, 4, 181, 0, 92, 3, 172, 42]
abbrev dktX4_load_0 : List UInt8 := dkwX4_load_0 ++ dktX4_load_1
theorem dksX4_load_0 : cX4_load.data.toList.drop 0 = dktX4_load_0 := sorry
theorem dksX4_load_1 : cX4_load.data.toList.drop 24 = dktX4_load_1 := sorry
theorem dksX4_load_2 : cX4_load.data.toList.drop 48 = dktX4_load_2 := sorry
theorem dksX4_load_3 : cX4_load.data.toList.drop 70 = dktX4_load_3 := sorry
theorem dksX4_load_4 : cX4_load.data.toList.drop 94 = dktX4_load_4 := sorry
theorem dksX4_load_5 : cX4_load.data.toList.drop 118 = dktX4_load_5 := sorry
theorem dksX4_load_6 : cX4_load.data.toList.drop 142 = dktX4_load_6 := sorry
theorem dksX4_load_7 : cX4_load.data.toList.drop 166 = dktX4_load_7 := sorry
theorem dksX4_load_8 : cX4_load.data.toList.drop 189 = dktX4_load_8 := sorry
theorem dX4_load_0 : decode cX4_load 0 = .ok (.aload_n 0, 1) := sorry
theorem dX4_load_1 : decode cX4_load 1 = .ok (.iconst 0, 1) := sorry
theorem dX4_load_2 : decode cX4_load 2 = .ok (.putfield 92, 3) := sorry
theorem dX4_load_5 : decode cX4_load 5 = .ok (.aload_n 0, 1) := sorry
theorem dX4_load_6 : decode cX4_load 6 = .ok (.invokevirtual 186, 3) := sorry
theorem dX4_load_9 : decode cX4_load 9 = .ok (.aload_n 0, 1) := sorry
theorem dX4_load_10 : decode cX4_load 10 = .ok (.invokevirtual 122, 3) := sorry
theorem dX4_load_13 : decode cX4_load 13 = .ok (.ifCond .eq 10, 3) := sorry
theorem dX4_load_16 : decode cX4_load 16 = .ok (.aload_n 0, 1) := sorry
theorem dX4_load_17 : decode cX4_load 17 = .ok (.iconst 1, 1) := sorry
theorem dX4_load_18 : decode cX4_load 18 = .ok (.putfield 92, 3) := sorry
theorem dX4_load_21 : decode cX4_load 21 = .ok (.iconst 0, 1) := sorry
theorem dX4_load_22 : decode cX4_load 22 = .ok (.ireturn, 1) := sorry
theorem dX4_load_23 : decode cX4_load 23 = .ok (.aload_n 0, 1) := sorry
theorem dX4_load_24 : decode cX4_load 24 = .ok (.aload_n 0, 1) := sorry
theorem dX4_load_25 : decode cX4_load 25 = .ok (.getfield 65, 3) := sorry
theorem dX4_load_28 : decode cX4_load 28 = .ok (.iconst 0, 1) := sorry
theorem dX4_load_29 : decode cX4_load 29 = .ok (.iaload, 1) := sorry
theorem dX4_load_30 : decode cX4_load 30 = .ok (.putfield 19, 3) := sorry
theorem dX4_load_33 : decode cX4_load 33 = .ok (.aload_n 0, 1) := sorry
theorem dX4_load_34 : decode cX4_load 34 = .ok (.aload_n 0, 1) := sorry
theorem dX4_load_35 : decode cX4_load 35 = .ok (.getfield 65, 3) := sorry
theorem dX4_load_38 : decode cX4_load 38 = .ok (.iconst 1, 1) := sorry
theorem dX4_load_39 : decode cX4_load 39 = .ok (.iaload, 1) := sorry
theorem dX4_load_40 : decode cX4_load 40 = .ok (.putfield 23, 3) := sorry
theorem dX4_load_43 : decode cX4_load 43 = .ok (.aload_n 0, 1) := sorry
theorem dX4_load_44 : decode cX4_load 44 = .ok (.aload_n 0, 1) := sorry
theorem dX4_load_45 : decode cX4_load 45 = .ok (.getfield 65, 3) := sorry
theorem dX4_load_48 : decode cX4_load 48 = .ok (.iconst 2, 1) := sorry
theorem dX4_load_49 : decode cX4_load 49 = .ok (.iaload, 1) := sorry
theorem dX4_load_50 : decode cX4_load 50 = .ok (.putfield 26, 3) := sorry
theorem dX4_load_53 : decode cX4_load 53 = .ok (.aload_n 0, 1) := sorry
theorem dX4_load_54 : decode cX4_load 54 = .ok (.aload_n 0, 1) := sorry
theorem dX4_load_55 : decode cX4_load 55 = .ok (.getfield 65, 3) := sorry
theorem dX4_load_58 : decode cX4_load 58 = .ok (.iconst 3, 1) := sorry
theorem dX4_load_59 : decode cX4_load 59 = .ok (.iaload, 1) := sorry
theorem dX4_load_60 : decode cX4_load 60 = .ok (.putfield 189, 3) := sorry
theorem dX4_load_63 : decode cX4_load 63 = .ok (.aload_n 0, 1) := sorry
theorem dX4_load_64 : decode cX4_load 64 = .ok (.aload_n 0, 1) := sorry
theorem dX4_load_65 : decode cX4_load 65 = .ok (.getfield 65, 3) := sorry
theorem dX4_load_68 : decode cX4_load 68 = .ok (.iconst 4, 1) := sorry
theorem dX4_load_69 : decode cX4_load 69 = .ok (.iaload, 1) := sorry
theorem dX4_load_70 : decode cX4_load 70 = .ok (.putfield 29, 3) := sorry
theorem dX4_load_73 : decode cX4_load 73 = .ok (.aload_n 0, 1) := sorry
theorem dX4_load_74 : decode cX4_load 74 = .ok (.aload_n 0, 1) := sorry
theorem dX4_load_75 : decode cX4_load 75 = .ok (.getfield 153, 3) := sorry
theorem dX4_load_78 : decode cX4_load 78 = .ok (.putfield 192, 3) := sorry
theorem dX4_load_81 : decode cX4_load 81 = .ok (.iconst 0, 1) := sorry
theorem dX4_load_82 : decode cX4_load 82 = .ok (.istore_n 1, 1) := sorry
theorem dX4_load_83 : decode cX4_load 83 = .ok (.iload_n 1, 1) := sorry
theorem dX4_load_84 : decode cX4_load 84 = .ok (.bipush 6, 2) := sorry
theorem dX4_load_86 : decode cX4_load 86 = .ok (.if_icmp .ge 93, 3) := sorry
theorem dX4_load_89 : decode cX4_load 89 = .ok (.aload_n 0, 1) := sorry
theorem dX4_load_90 : decode cX4_load 90 = .ok (.getfield 32, 3) := sorry
theorem dX4_load_93 : decode cX4_load 93 = .ok (.iload_n 1, 1) := sorry
theorem dX4_load_94 : decode cX4_load 94 = .ok (.aload_n 0, 1) := sorry
theorem dX4_load_95 : decode cX4_load 95 = .ok (.getfield 68, 3) := sorry
theorem dX4_load_98 : decode cX4_load 98 = .ok (.iload_n 1, 1) := sorry
theorem dX4_load_99 : decode cX4_load 99 = .ok (.laload, 1) := sorry
theorem dX4_load_100 : decode cX4_load 100 = .ok (.lastore, 1) := sorry
theorem dX4_load_101 : decode cX4_load 101 = .ok (.aload_n 0, 1) := sorry
theorem dX4_load_102 : decode cX4_load 102 = .ok (.getfield 36, 3) := sorry
theorem dX4_load_105 : decode cX4_load 105 = .ok (.iload_n 1, 1) := sorry
theorem dX4_load_106 : decode cX4_load 106 = .ok (.aload_n 0, 1) := sorry
theorem dX4_load_107 : decode cX4_load 107 = .ok (.getfield 71, 3) := sorry
theorem dX4_load_110 : decode cX4_load 110 = .ok (.iload_n 1, 1) := sorry
theorem dX4_load_111 : decode cX4_load 111 = .ok (.iaload, 1) := sorry
theorem dX4_load_112 : decode cX4_load 112 = .ok (.iastore, 1) := sorry
theorem dX4_load_113 : decode cX4_load 113 = .ok (.aload_n 0, 1) := sorry
theorem dX4_load_114 : decode cX4_load 114 = .ok (.getfield 39, 3) := sorry
theorem dX4_load_117 : decode cX4_load 117 = .ok (.iload_n 1, 1) := sorry
theorem dX4_load_118 : decode cX4_load 118 = .ok (.aload_n 0, 1) := sorry
theorem dX4_load_119 : decode cX4_load 119 = .ok (.getfield 74, 3) := sorry
theorem dX4_load_122 : decode cX4_load 122 = .ok (.iload_n 1, 1) := sorry
theorem dX4_load_123 : decode cX4_load 123 = .ok (.iaload, 1) := sorry
theorem dX4_load_124 : decode cX4_load 124 = .ok (.iastore, 1) := sorry
theorem dX4_load_125 : decode cX4_load 125 = .ok (.aload_n 0, 1) := sorry
theorem dX4_load_126 : decode cX4_load 126 = .ok (.getfield 42, 3) := sorry
theorem dX4_load_129 : decode cX4_load 129 = .ok (.iload_n 1, 1) := sorry
theorem dX4_load_130 : decode cX4_load 130 = .ok (.aload_n 0, 1) := sorry
theorem dX4_load_131 : decode cX4_load 131 = .ok (.getfield 77, 3) := sorry
theorem dX4_load_134 : decode cX4_load 134 = .ok (.iload_n 1, 1) := sorry
theorem dX4_load_135 : decode cX4_load 135 = .ok (.iaload, 1) := sorry
theorem dX4_load_136 : decode cX4_load 136 = .ok (.iastore, 1) := sorry
theorem dX4_load_137 : decode cX4_load 137 = .ok (.aload_n 0, 1) := sorry
theorem dX4_load_138 : decode cX4_load 138 = .ok (.getfield 45, 3) := sorry
theorem dX4_load_141 : decode cX4_load 141 = .ok (.iload_n 1, 1) := sorry
theorem dX4_load_142 : decode cX4_load 142 = .ok (.aload_n 0, 1) := sorry
theorem dX4_load_143 : decode cX4_load 143 = .ok (.getfield 80, 3) := sorry
theorem dX4_load_146 : decode cX4_load 146 = .ok (.iload_n 1, 1) := sorry
theorem dX4_load_147 : decode cX4_load 147 = .ok (.iaload, 1) := sorry
theorem dX4_load_148 : decode cX4_load 148 = .ok (.iastore, 1) := sorry
theorem dX4_load_149 : decode cX4_load 149 = .ok (.aload_n 0, 1) := sorry
theorem dX4_load_150 : decode cX4_load 150 = .ok (.getfield 48, 3) := sorry
theorem dX4_load_153 : decode cX4_load 153 = .ok (.iload_n 1, 1) := sorry
theorem dX4_load_154 : decode cX4_load 154 = .ok (.aload_n 0, 1) := sorry
theorem dX4_load_155 : decode cX4_load 155 = .ok (.getfield 83, 3) := sorry
theorem dX4_load_158 : decode cX4_load 158 = .ok (.iload_n 1, 1) := sorry
theorem dX4_load_159 : decode cX4_load 159 = .ok (.baload, 1) := sorry
theorem dX4_load_160 : decode cX4_load 160 = .ok (.bastore, 1) := sorry
theorem dX4_load_161 : decode cX4_load 161 = .ok (.aload_n 0, 1) := sorry
theorem dX4_load_162 : decode cX4_load 162 = .ok (.getfield 52, 3) := sorry
theorem dX4_load_165 : decode cX4_load 165 = .ok (.iload_n 1, 1) := sorry
theorem dX4_load_166 : decode cX4_load 166 = .ok (.aload_n 0, 1) := sorry
theorem dX4_load_167 : decode cX4_load 167 = .ok (.getfield 86, 3) := sorry
theorem dX4_load_170 : decode cX4_load 170 = .ok (.iload_n 1, 1) := sorry
theorem dX4_load_171 : decode cX4_load 171 = .ok (.baload, 1) := sorry
theorem dX4_load_172 : decode cX4_load 172 = .ok (.bastore, 1) := sorry
theorem dX4_load_173 : decode cX4_load 173 = .ok (.iinc 1 1, 3) := sorry
theorem dX4_load_176 : decode cX4_load 176 = .ok (.goto (-93), 3) := sorry
theorem dX4_load_179 : decode cX4_load 179 = .ok (.iconst 0, 1) := sorry
theorem dX4_load_180 : decode cX4_load 180 = .ok (.istore_n 1, 1) := sorry
theorem dX4_load_181 : decode cX4_load 181 = .ok (.iload_n 1, 1) := sorry
theorem dX4_load_182 : decode cX4_load 182 = .ok (.sipush 941, 3) := sorry
theorem dX4_load_185 : decode cX4_load 185 = .ok (.if_icmp .ge 16, 3) := sorry
theorem dX4_load_188 : decode cX4_load 188 = .ok (.aload_n 0, 1) := sorry
theorem dX4_load_189 : decode cX4_load 189 = .ok (.getfield 7, 3) := sorry
theorem dX4_load_192 : decode cX4_load 192 = .ok (.iload_n 1, 1) := sorry
theorem dX4_load_193 : decode cX4_load 193 = .ok (.iconst 0, 1) := sorry
theorem dX4_load_194 : decode cX4_load 194 = .ok (.iastore, 1) := sorry
theorem dX4_load_195 : decode cX4_load 195 = .ok (.iinc 1 1, 3) := sorry
theorem dX4_load_198 : decode cX4_load 198 = .ok (.goto (-17), 3) := sorry
theorem dX4_load_201 : decode cX4_load 201 = .ok (.aload_n 0, 1) := sorry
theorem dX4_load_202 : decode cX4_load 202 = .ok (.iconst 0, 1) := sorry
theorem dX4_load_203 : decode cX4_load 203 = .ok (.putfield 195, 3) := sorry
theorem dX4_load_206 : decode cX4_load 206 = .ok (.aload_n 0, 1) := sorry
theorem dX4_load_207 : decode cX4_load 207 = .ok (.getfield 192, 3) := sorry
theorem dX4_load_210 : decode cX4_load 210 = .ok (.ireturn, 1) := sorry
abbrev cX4_parse : ByteArray := prog_16_method_20_code
def yX4_parse : MethodName := ⟨RX4, "parse", "()V"⟩
def dkwX4_parse_5 : List UInt8 := [180, 0, 101, 4, 96, 181, 0, 101, 167, 255, 202, 177]
abbrev dktX4_parse_5 : List UInt8 := dkwX4_parse_5 ++ []
def dkwX4_parse_4 : List UInt8 := [154, 0, 21, 42, 182, 0, 111, 16, 59, 159, 0, 12, 42, 4, 42, 180, 0, 101, 182, 0, 141, 42, 89]
abbrev dktX4_parse_4 : List UInt8 := dkwX4_parse_4 ++ dktX4_parse_5
def dkwX4_parse_3 : List UInt8 := [182, 0, 122, 154, 0, 53, 42, 182, 0, 111, 2, 159, 0, 45, 42, 182, 0, 183, 42, 182, 0, 122]
abbrev dktX4_parse_3 : List UInt8 := dkwX4_parse_3 ++ dktX4_parse_4
def dkwX4_parse_2 : List UInt8 := [79, 42, 180, 0, 65, 5, 8, 79, 42, 180, 0, 65, 6, 3, 79, 42, 180, 0, 65, 7, 16, 20, 79, 42]
abbrev dktX4_parse_2 : List UInt8 := dkwX4_parse_2 ++ dktX4_parse_3
def dkwX4_parse_1 : List UInt8 := [3, 181, 0, 108, 42, 3, 181, 0, 153, 42, 180, 0, 65, 3, 16, 50, 79, 42, 180, 0, 65, 4, 16, 40]
abbrev dktX4_parse_1 : List UInt8 := dkwX4_parse_1 ++ dktX4_parse_2
def dkwX4_parse_0 : List UInt8 := [42, 42, 180, 0, 95, 181, 0, 98, 42, 3, 181, 0, 95, 42, 3, 181, 0, 101, 42, 2, 181, 0, 62, 42]
abbrev dktX4_parse_0 : List UInt8 := dkwX4_parse_0 ++ dktX4_parse_1
theorem dksX4_parse_0 : cX4_parse.data.toList.drop 0 = dktX4_parse_0 := sorry
theorem dksX4_parse_1 : cX4_parse.data.toList.drop 24 = dktX4_parse_1 := sorry
theorem dksX4_parse_2 : cX4_parse.data.toList.drop 48 = dktX4_parse_2 := sorry
theorem dksX4_parse_3 : cX4_parse.data.toList.drop 72 = dktX4_parse_3 := sorry
theorem dksX4_parse_4 : cX4_parse.data.toList.drop 94 = dktX4_parse_4 := sorry
theorem dksX4_parse_5 : cX4_parse.data.toList.drop 117 = dktX4_parse_5 := sorry
theorem dX4_parse_0 : decode cX4_parse 0 = .ok (.aload_n 0, 1) := sorry
theorem dX4_parse_1 : decode cX4_parse 1 = .ok (.aload_n 0, 1) := sorry
theorem dX4_parse_2 : decode cX4_parse 2 = .ok (.getfield 95, 3) := sorry
theorem dX4_parse_5 : decode cX4_parse 5 = .ok (.putfield 98, 3) := sorry
theorem dX4_parse_8 : decode cX4_parse 8 = .ok (.aload_n 0, 1) := sorry
theorem dX4_parse_9 : decode cX4_parse 9 = .ok (.iconst 0, 1) := sorry
theorem dX4_parse_10 : decode cX4_parse 10 = .ok (.putfield 95, 3) := sorry
theorem dX4_parse_13 : decode cX4_parse 13 = .ok (.aload_n 0, 1) := sorry
theorem dX4_parse_14 : decode cX4_parse 14 = .ok (.iconst 0, 1) := sorry
theorem dX4_parse_15 : decode cX4_parse 15 = .ok (.putfield 101, 3) := sorry
theorem dX4_parse_18 : decode cX4_parse 18 = .ok (.aload_n 0, 1) := sorry
theorem dX4_parse_19 : decode cX4_parse 19 = .ok (.iconst (-1), 1) := sorry
theorem dX4_parse_20 : decode cX4_parse 20 = .ok (.putfield 62, 3) := sorry
theorem dX4_parse_23 : decode cX4_parse 23 = .ok (.aload_n 0, 1) := sorry
theorem dX4_parse_24 : decode cX4_parse 24 = .ok (.iconst 0, 1) := sorry
theorem dX4_parse_25 : decode cX4_parse 25 = .ok (.putfield 108, 3) := sorry
theorem dX4_parse_28 : decode cX4_parse 28 = .ok (.aload_n 0, 1) := sorry
theorem dX4_parse_29 : decode cX4_parse 29 = .ok (.iconst 0, 1) := sorry
theorem dX4_parse_30 : decode cX4_parse 30 = .ok (.putfield 153, 3) := sorry
theorem dX4_parse_33 : decode cX4_parse 33 = .ok (.aload_n 0, 1) := sorry
theorem dX4_parse_34 : decode cX4_parse 34 = .ok (.getfield 65, 3) := sorry
theorem dX4_parse_37 : decode cX4_parse 37 = .ok (.iconst 0, 1) := sorry
theorem dX4_parse_38 : decode cX4_parse 38 = .ok (.bipush 50, 2) := sorry
theorem dX4_parse_40 : decode cX4_parse 40 = .ok (.iastore, 1) := sorry
theorem dX4_parse_41 : decode cX4_parse 41 = .ok (.aload_n 0, 1) := sorry
theorem dX4_parse_42 : decode cX4_parse 42 = .ok (.getfield 65, 3) := sorry
theorem dX4_parse_45 : decode cX4_parse 45 = .ok (.iconst 1, 1) := sorry
theorem dX4_parse_46 : decode cX4_parse 46 = .ok (.bipush 40, 2) := sorry
theorem dX4_parse_48 : decode cX4_parse 48 = .ok (.iastore, 1) := sorry
theorem dX4_parse_49 : decode cX4_parse 49 = .ok (.aload_n 0, 1) := sorry
theorem dX4_parse_50 : decode cX4_parse 50 = .ok (.getfield 65, 3) := sorry
theorem dX4_parse_53 : decode cX4_parse 53 = .ok (.iconst 2, 1) := sorry
theorem dX4_parse_54 : decode cX4_parse 54 = .ok (.iconst 5, 1) := sorry
theorem dX4_parse_55 : decode cX4_parse 55 = .ok (.iastore, 1) := sorry
theorem dX4_parse_56 : decode cX4_parse 56 = .ok (.aload_n 0, 1) := sorry
theorem dX4_parse_57 : decode cX4_parse 57 = .ok (.getfield 65, 3) := sorry
theorem dX4_parse_60 : decode cX4_parse 60 = .ok (.iconst 3, 1) := sorry
theorem dX4_parse_61 : decode cX4_parse 61 = .ok (.iconst 0, 1) := sorry
theorem dX4_parse_62 : decode cX4_parse 62 = .ok (.iastore, 1) := sorry
theorem dX4_parse_63 : decode cX4_parse 63 = .ok (.aload_n 0, 1) := sorry
theorem dX4_parse_64 : decode cX4_parse 64 = .ok (.getfield 65, 3) := sorry
theorem dX4_parse_67 : decode cX4_parse 67 = .ok (.iconst 4, 1) := sorry
theorem dX4_parse_68 : decode cX4_parse 68 = .ok (.bipush 20, 2) := sorry
theorem dX4_parse_70 : decode cX4_parse 70 = .ok (.iastore, 1) := sorry
theorem dX4_parse_71 : decode cX4_parse 71 = .ok (.aload_n 0, 1) := sorry
theorem dX4_parse_72 : decode cX4_parse 72 = .ok (.invokevirtual 122, 3) := sorry
theorem dX4_parse_75 : decode cX4_parse 75 = .ok (.ifCond .ne 53, 3) := sorry
theorem dX4_parse_78 : decode cX4_parse 78 = .ok (.aload_n 0, 1) := sorry
theorem dX4_parse_79 : decode cX4_parse 79 = .ok (.invokevirtual 111, 3) := sorry
theorem dX4_parse_82 : decode cX4_parse 82 = .ok (.iconst (-1), 1) := sorry
theorem dX4_parse_83 : decode cX4_parse 83 = .ok (.if_icmp .eq 45, 3) := sorry
theorem dX4_parse_86 : decode cX4_parse 86 = .ok (.aload_n 0, 1) := sorry
theorem dX4_parse_87 : decode cX4_parse 87 = .ok (.invokevirtual 183, 3) := sorry
theorem dX4_parse_90 : decode cX4_parse 90 = .ok (.aload_n 0, 1) := sorry
theorem dX4_parse_91 : decode cX4_parse 91 = .ok (.invokevirtual 122, 3) := sorry
theorem dX4_parse_94 : decode cX4_parse 94 = .ok (.ifCond .ne 21, 3) := sorry
theorem dX4_parse_97 : decode cX4_parse 97 = .ok (.aload_n 0, 1) := sorry
theorem dX4_parse_98 : decode cX4_parse 98 = .ok (.invokevirtual 111, 3) := sorry
theorem dX4_parse_101 : decode cX4_parse 101 = .ok (.bipush 59, 2) := sorry
theorem dX4_parse_103 : decode cX4_parse 103 = .ok (.if_icmp .eq 12, 3) := sorry
theorem dX4_parse_106 : decode cX4_parse 106 = .ok (.aload_n 0, 1) := sorry
theorem dX4_parse_107 : decode cX4_parse 107 = .ok (.iconst 1, 1) := sorry
theorem dX4_parse_108 : decode cX4_parse 108 = .ok (.aload_n 0, 1) := sorry
theorem dX4_parse_109 : decode cX4_parse 109 = .ok (.getfield 101, 3) := sorry
theorem dX4_parse_112 : decode cX4_parse 112 = .ok (.invokevirtual 141, 3) := sorry
theorem dX4_parse_115 : decode cX4_parse 115 = .ok (.aload_n 0, 1) := sorry
theorem dX4_parse_116 : decode cX4_parse 116 = .ok (.dup, 1) := sorry
theorem dX4_parse_117 : decode cX4_parse 117 = .ok (.getfield 101, 3) := sorry
theorem dX4_parse_120 : decode cX4_parse 120 = .ok (.iconst 1, 1) := sorry
theorem dX4_parse_121 : decode cX4_parse 121 = .ok (.iadd, 1) := sorry
theorem dX4_parse_122 : decode cX4_parse 122 = .ok (.putfield 101, 3) := sorry
theorem dX4_parse_125 : decode cX4_parse 125 = .ok (.goto (-54), 3) := sorry
theorem dX4_parse_128 : decode cX4_parse 128 = .ok (.return_, 1) := sorry
abbrev cX4_failed : ByteArray := prog_16_method_10_code
def yX4_failed : MethodName := ⟨RX4, "failed", "()Z"⟩
def dkwX4_failed_0 : List UInt8 := [42, 180, 0, 108, 153, 0, 7, 4, 167, 0, 4, 3, 172]
abbrev dktX4_failed_0 : List UInt8 := dkwX4_failed_0 ++ []
theorem dksX4_failed_0 : cX4_failed.data.toList.drop 0 = dktX4_failed_0 := sorry
theorem dX4_failed_0 : decode cX4_failed 0 = .ok (.aload_n 0, 1) := sorry
theorem dX4_failed_1 : decode cX4_failed 1 = .ok (.getfield 108, 3) := sorry
theorem dX4_failed_4 : decode cX4_failed 4 = .ok (.ifCond .eq 7, 3) := sorry
theorem dX4_failed_7 : decode cX4_failed 7 = .ok (.iconst 1, 1) := sorry
theorem dX4_failed_8 : decode cX4_failed 8 = .ok (.goto 4, 3) := sorry
theorem dX4_failed_11 : decode cX4_failed 11 = .ok (.iconst 0, 1) := sorry
theorem dX4_failed_12 : decode cX4_failed 12 = .ok (.ireturn, 1) := sorry
abbrev cX4_peek : ByteArray := prog_16_method_9_code
def yX4_peek : MethodName := ⟨RX4, "peek", "()I"⟩
def dkwX4_peek_2 : List UInt8 := [181, 0, 101, 167, 255, 207, 42, 42, 180, 0, 101, 182, 0, 104, 172]
abbrev dktX4_peek_2 : List UInt8 := dkwX4_peek_2 ++ []
def dkwX4_peek_1 : List UInt8 := [159, 0, 16, 42, 42, 180, 0, 101, 182, 0, 104, 16, 32, 160, 0, 16, 42, 89, 180, 0, 101, 4, 96]
abbrev dktX4_peek_1 : List UInt8 := dkwX4_peek_1 ++ dktX4_peek_2
def dkwX4_peek_0 : List UInt8 := [42, 42, 180, 0, 101, 182, 0, 104, 16, 9, 159, 0, 29, 42, 42, 180, 0, 101, 182, 0, 104, 16, 10]
abbrev dktX4_peek_0 : List UInt8 := dkwX4_peek_0 ++ dktX4_peek_1
theorem dksX4_peek_0 : cX4_peek.data.toList.drop 0 = dktX4_peek_0 := sorry
theorem dksX4_peek_1 : cX4_peek.data.toList.drop 23 = dktX4_peek_1 := sorry
theorem dksX4_peek_2 : cX4_peek.data.toList.drop 46 = dktX4_peek_2 := sorry
theorem dX4_peek_0 : decode cX4_peek 0 = .ok (.aload_n 0, 1) := sorry
theorem dX4_peek_1 : decode cX4_peek 1 = .ok (.aload_n 0, 1) := sorry
theorem dX4_peek_2 : decode cX4_peek 2 = .ok (.getfield 101, 3) := sorry
theorem dX4_peek_5 : decode cX4_peek 5 = .ok (.invokevirtual 104, 3) := sorry
theorem dX4_peek_8 : decode cX4_peek 8 = .ok (.bipush 9, 2) := sorry
theorem dX4_peek_10 : decode cX4_peek 10 = .ok (.if_icmp .eq 29, 3) := sorry
theorem dX4_peek_13 : decode cX4_peek 13 = .ok (.aload_n 0, 1) := sorry
theorem dX4_peek_14 : decode cX4_peek 14 = .ok (.aload_n 0, 1) := sorry
theorem dX4_peek_15 : decode cX4_peek 15 = .ok (.getfield 101, 3) := sorry
theorem dX4_peek_18 : decode cX4_peek 18 = .ok (.invokevirtual 104, 3) := sorry
theorem dX4_peek_21 : decode cX4_peek 21 = .ok (.bipush 10, 2) := sorry
theorem dX4_peek_23 : decode cX4_peek 23 = .ok (.if_icmp .eq 16, 3) := sorry
theorem dX4_peek_26 : decode cX4_peek 26 = .ok (.aload_n 0, 1) := sorry
theorem dX4_peek_27 : decode cX4_peek 27 = .ok (.aload_n 0, 1) := sorry
theorem dX4_peek_28 : decode cX4_peek 28 = .ok (.getfield 101, 3) := sorry
theorem dX4_peek_31 : decode cX4_peek 31 = .ok (.invokevirtual 104, 3) := sorry
theorem dX4_peek_34 : decode cX4_peek 34 = .ok (.bipush 32, 2) := sorry
theorem dX4_peek_36 : decode cX4_peek 36 = .ok (.if_icmp .ne 16, 3) := sorry
theorem dX4_peek_39 : decode cX4_peek 39 = .ok (.aload_n 0, 1) := sorry
theorem dX4_peek_40 : decode cX4_peek 40 = .ok (.dup, 1) := sorry
theorem dX4_peek_41 : decode cX4_peek 41 = .ok (.getfield 101, 3) := sorry
theorem dX4_peek_44 : decode cX4_peek 44 = .ok (.iconst 1, 1) := sorry
theorem dX4_peek_45 : decode cX4_peek 45 = .ok (.iadd, 1) := sorry
theorem dX4_peek_46 : decode cX4_peek 46 = .ok (.putfield 101, 3) := sorry
theorem dX4_peek_49 : decode cX4_peek 49 = .ok (.goto (-49), 3) := sorry
theorem dX4_peek_52 : decode cX4_peek 52 = .ok (.aload_n 0, 1) := sorry
theorem dX4_peek_53 : decode cX4_peek 53 = .ok (.aload_n 0, 1) := sorry
theorem dX4_peek_54 : decode cX4_peek 54 = .ok (.getfield 101, 3) := sorry
theorem dX4_peek_57 : decode cX4_peek 57 = .ok (.invokevirtual 104, 3) := sorry
theorem dX4_peek_60 : decode cX4_peek 60 = .ok (.ireturn, 1) := sorry
abbrev cX4_byteAt : ByteArray := prog_16_method_8_code
def yX4_byteAt : MethodName := ⟨RX4, "byteAt", "(I)I"⟩
def dkwX4_byteAt_0 : List UInt8 := [27, 42, 180, 0, 98, 162, 0, 16, 42, 180, 0, 58, 27, 51, 17, 0, 255, 126, 167, 0, 4, 2, 172]
abbrev dktX4_byteAt_0 : List UInt8 := dkwX4_byteAt_0 ++ []
theorem dksX4_byteAt_0 : cX4_byteAt.data.toList.drop 0 = dktX4_byteAt_0 := sorry
theorem dX4_byteAt_0 : decode cX4_byteAt 0 = .ok (.iload_n 1, 1) := sorry
theorem dX4_byteAt_1 : decode cX4_byteAt 1 = .ok (.aload_n 0, 1) := sorry
theorem dX4_byteAt_2 : decode cX4_byteAt 2 = .ok (.getfield 98, 3) := sorry
theorem dX4_byteAt_5 : decode cX4_byteAt 5 = .ok (.if_icmp .ge 16, 3) := sorry
theorem dX4_byteAt_8 : decode cX4_byteAt 8 = .ok (.aload_n 0, 1) := sorry
theorem dX4_byteAt_9 : decode cX4_byteAt 9 = .ok (.getfield 58, 3) := sorry
theorem dX4_byteAt_12 : decode cX4_byteAt 12 = .ok (.iload_n 1, 1) := sorry
theorem dX4_byteAt_13 : decode cX4_byteAt 13 = .ok (.baload, 1) := sorry
theorem dX4_byteAt_14 : decode cX4_byteAt 14 = .ok (.sipush 255, 3) := sorry
theorem dX4_byteAt_17 : decode cX4_byteAt 17 = .ok (.iand, 1) := sorry
theorem dX4_byteAt_18 : decode cX4_byteAt 18 = .ok (.goto 4, 3) := sorry
theorem dX4_byteAt_21 : decode cX4_byteAt 21 = .ok (.iconst (-1), 1) := sorry
theorem dX4_byteAt_22 : decode cX4_byteAt 22 = .ok (.ireturn, 1) := sorry
abbrev cX4_line : ByteArray := prog_16_method_19_code
def yX4_line : MethodName := ⟨RX4, "line", "()V"⟩
def dkwX4_line_6 : List UInt8 := [167, 0, 12, 42, 4, 42, 180, 0, 101, 182, 0, 141, 177]
abbrev dktX4_line_6 : List UInt8 := dkwX4_line_6 ++ []
def dkwX4_line_5 : List UInt8 := [17, 1, 44, 182, 0, 163, 79, 167, 0, 28, 42, 18, 175, 182, 0, 138, 153, 0, 10, 42, 182, 0, 180]
abbrev dktX4_line_5 : List UInt8 := dkwX4_line_5 ++ dktX4_line_6
def dkwX4_line_4 : List UInt8 := [153, 0, 34, 42, 180, 0, 65, 6, 42, 3, 17, 1, 44, 182, 0, 163, 79, 42, 180, 0, 65, 7, 42, 4]
abbrev dktX4_line_4 : List UInt8 := dkwX4_line_4 ++ dktX4_line_5
def dkwX4_line_3 : List UInt8 := [79, 42, 180, 0, 65, 5, 42, 3, 16, 20, 182, 0, 163, 79, 167, 0, 68, 42, 18, 178, 182, 0, 138]
abbrev dktX4_line_3 : List UInt8 := dkwX4_line_3 ++ dktX4_line_4
def dkwX4_line_2 : List UInt8 := [3, 42, 16, 21, 17, 0, 200, 182, 0, 163, 79, 42, 180, 0, 65, 4, 42, 3, 17, 0, 200, 182, 0, 163]
abbrev dktX4_line_2 : List UInt8 := dkwX4_line_2 ++ dktX4_line_3
def dkwX4_line_1 : List UInt8 := [7, 42, 180, 0, 101, 182, 0, 141, 167, 0, 122, 42, 18, 177, 182, 0, 138, 153, 0, 48, 42, 180, 0, 65]
abbrev dktX4_line_1 : List UInt8 := dkwX4_line_1 ++ dktX4_line_2
def dkwX4_line_0 : List UInt8 := [42, 182, 0, 111, 87, 42, 18, 175, 182, 0, 134, 153, 0, 24, 42, 180, 0, 153, 16, 6, 160, 0, 15, 42]
abbrev dktX4_line_0 : List UInt8 := dkwX4_line_0 ++ dktX4_line_1
theorem dksX4_line_0 : cX4_line.data.toList.drop 0 = dktX4_line_0 := sorry
theorem dksX4_line_1 : cX4_line.data.toList.drop 24 = dktX4_line_1 := sorry
theorem dksX4_line_2 : cX4_line.data.toList.drop 48 = dktX4_line_2 := sorry
theorem dksX4_line_3 : cX4_line.data.toList.drop 72 = dktX4_line_3 := sorry
theorem dksX4_line_4 : cX4_line.data.toList.drop 95 = dktX4_line_4 := sorry
theorem dksX4_line_5 : cX4_line.data.toList.drop 119 = dktX4_line_5 := sorry
theorem dksX4_line_6 : cX4_line.data.toList.drop 142 = dktX4_line_6 := sorry
theorem dX4_line_0 : decode cX4_line 0 = .ok (.aload_n 0, 1) := sorry
theorem dX4_line_1 : decode cX4_line 1 = .ok (.invokevirtual 111, 3) := sorry
theorem dX4_line_4 : decode cX4_line 4 = .ok (.pop, 1) := sorry
theorem dX4_line_5 : decode cX4_line 5 = .ok (.aload_n 0, 1) := sorry
theorem dX4_line_6 : decode cX4_line 6 = .ok (.ldc 175, 2) := sorry
theorem dX4_line_8 : decode cX4_line 8 = .ok (.invokevirtual 134, 3) := sorry
theorem dX4_line_11 : decode cX4_line 11 = .ok (.ifCond .eq 24, 3) := sorry
theorem dX4_line_14 : decode cX4_line 14 = .ok (.aload_n 0, 1) := sorry
theorem dX4_line_15 : decode cX4_line 15 = .ok (.getfield 153, 3) := sorry
theorem dX4_line_18 : decode cX4_line 18 = .ok (.bipush 6, 2) := sorry
theorem dX4_line_20 : decode cX4_line 20 = .ok (.if_icmp .ne 15, 3) := sorry
theorem dX4_line_23 : decode cX4_line 23 = .ok (.aload_n 0, 1) := sorry
theorem dX4_line_24 : decode cX4_line 24 = .ok (.iconst 4, 1) := sorry
theorem dX4_line_25 : decode cX4_line 25 = .ok (.aload_n 0, 1) := sorry
theorem dX4_line_26 : decode cX4_line 26 = .ok (.getfield 101, 3) := sorry
theorem dX4_line_29 : decode cX4_line 29 = .ok (.invokevirtual 141, 3) := sorry
theorem dX4_line_32 : decode cX4_line 32 = .ok (.goto 122, 3) := sorry
theorem dX4_line_35 : decode cX4_line 35 = .ok (.aload_n 0, 1) := sorry
theorem dX4_line_36 : decode cX4_line 36 = .ok (.ldc 177, 2) := sorry
theorem dX4_line_38 : decode cX4_line 38 = .ok (.invokevirtual 138, 3) := sorry
theorem dX4_line_41 : decode cX4_line 41 = .ok (.ifCond .eq 48, 3) := sorry
theorem dX4_line_44 : decode cX4_line 44 = .ok (.aload_n 0, 1) := sorry
theorem dX4_line_45 : decode cX4_line 45 = .ok (.getfield 65, 3) := sorry
theorem dX4_line_48 : decode cX4_line 48 = .ok (.iconst 0, 1) := sorry
theorem dX4_line_49 : decode cX4_line 49 = .ok (.aload_n 0, 1) := sorry
theorem dX4_line_50 : decode cX4_line 50 = .ok (.bipush 21, 2) := sorry
theorem dX4_line_52 : decode cX4_line 52 = .ok (.sipush 200, 3) := sorry
theorem dX4_line_55 : decode cX4_line 55 = .ok (.invokevirtual 163, 3) := sorry
theorem dX4_line_58 : decode cX4_line 58 = .ok (.iastore, 1) := sorry
theorem dX4_line_59 : decode cX4_line 59 = .ok (.aload_n 0, 1) := sorry
theorem dX4_line_60 : decode cX4_line 60 = .ok (.getfield 65, 3) := sorry
theorem dX4_line_63 : decode cX4_line 63 = .ok (.iconst 1, 1) := sorry
theorem dX4_line_64 : decode cX4_line 64 = .ok (.aload_n 0, 1) := sorry
theorem dX4_line_65 : decode cX4_line 65 = .ok (.iconst 0, 1) := sorry
theorem dX4_line_66 : decode cX4_line 66 = .ok (.sipush 200, 3) := sorry
theorem dX4_line_69 : decode cX4_line 69 = .ok (.invokevirtual 163, 3) := sorry
theorem dX4_line_72 : decode cX4_line 72 = .ok (.iastore, 1) := sorry
theorem dX4_line_73 : decode cX4_line 73 = .ok (.aload_n 0, 1) := sorry
theorem dX4_line_74 : decode cX4_line 74 = .ok (.getfield 65, 3) := sorry
theorem dX4_line_77 : decode cX4_line 77 = .ok (.iconst 2, 1) := sorry
theorem dX4_line_78 : decode cX4_line 78 = .ok (.aload_n 0, 1) := sorry
theorem dX4_line_79 : decode cX4_line 79 = .ok (.iconst 0, 1) := sorry
theorem dX4_line_80 : decode cX4_line 80 = .ok (.bipush 20, 2) := sorry
theorem dX4_line_82 : decode cX4_line 82 = .ok (.invokevirtual 163, 3) := sorry
theorem dX4_line_85 : decode cX4_line 85 = .ok (.iastore, 1) := sorry
theorem dX4_line_86 : decode cX4_line 86 = .ok (.goto 68, 3) := sorry
theorem dX4_line_89 : decode cX4_line 89 = .ok (.aload_n 0, 1) := sorry
theorem dX4_line_90 : decode cX4_line 90 = .ok (.ldc 178, 2) := sorry
theorem dX4_line_92 : decode cX4_line 92 = .ok (.invokevirtual 138, 3) := sorry
theorem dX4_line_95 : decode cX4_line 95 = .ok (.ifCond .eq 34, 3) := sorry
theorem dX4_line_98 : decode cX4_line 98 = .ok (.aload_n 0, 1) := sorry
theorem dX4_line_99 : decode cX4_line 99 = .ok (.getfield 65, 3) := sorry
theorem dX4_line_102 : decode cX4_line 102 = .ok (.iconst 3, 1) := sorry
theorem dX4_line_103 : decode cX4_line 103 = .ok (.aload_n 0, 1) := sorry
theorem dX4_line_104 : decode cX4_line 104 = .ok (.iconst 0, 1) := sorry
theorem dX4_line_105 : decode cX4_line 105 = .ok (.sipush 300, 3) := sorry
theorem dX4_line_108 : decode cX4_line 108 = .ok (.invokevirtual 163, 3) := sorry
theorem dX4_line_111 : decode cX4_line 111 = .ok (.iastore, 1) := sorry
theorem dX4_line_112 : decode cX4_line 112 = .ok (.aload_n 0, 1) := sorry
theorem dX4_line_113 : decode cX4_line 113 = .ok (.getfield 65, 3) := sorry
theorem dX4_line_116 : decode cX4_line 116 = .ok (.iconst 4, 1) := sorry
theorem dX4_line_117 : decode cX4_line 117 = .ok (.aload_n 0, 1) := sorry
theorem dX4_line_118 : decode cX4_line 118 = .ok (.iconst 1, 1) := sorry
theorem dX4_line_119 : decode cX4_line 119 = .ok (.sipush 300, 3) := sorry
theorem dX4_line_122 : decode cX4_line 122 = .ok (.invokevirtual 163, 3) := sorry
theorem dX4_line_125 : decode cX4_line 125 = .ok (.iastore, 1) := sorry
theorem dX4_line_126 : decode cX4_line 126 = .ok (.goto 28, 3) := sorry
theorem dX4_line_129 : decode cX4_line 129 = .ok (.aload_n 0, 1) := sorry
theorem dX4_line_130 : decode cX4_line 130 = .ok (.ldc 175, 2) := sorry
theorem dX4_line_132 : decode cX4_line 132 = .ok (.invokevirtual 138, 3) := sorry
theorem dX4_line_135 : decode cX4_line 135 = .ok (.ifCond .eq 10, 3) := sorry
theorem dX4_line_138 : decode cX4_line 138 = .ok (.aload_n 0, 1) := sorry
theorem dX4_line_139 : decode cX4_line 139 = .ok (.invokevirtual 180, 3) := sorry
theorem dX4_line_142 : decode cX4_line 142 = .ok (.goto 12, 3) := sorry
theorem dX4_line_145 : decode cX4_line 145 = .ok (.aload_n 0, 1) := sorry
theorem dX4_line_146 : decode cX4_line 146 = .ok (.iconst 1, 1) := sorry
theorem dX4_line_147 : decode cX4_line 147 = .ok (.aload_n 0, 1) := sorry
theorem dX4_line_148 : decode cX4_line 148 = .ok (.getfield 101, 3) := sorry
theorem dX4_line_151 : decode cX4_line 151 = .ok (.invokevirtual 141, 3) := sorry
theorem dX4_line_154 : decode cX4_line 154 = .ok (.return_, 1) := sorry
abbrev cX4_isWord : ByteArray := prog_16_method_13_code
def yX4_isWord : MethodName := ⟨RX4, "isWord", "(Ljava/lang/String;)Z"⟩
def dkwX4_isWord_3 : List UInt8 := [167, 0, 4, 3, 62, 132, 4, 1, 167, 255, 214, 29, 172]
abbrev dktX4_isWord_3 : List UInt8 := dkwX4_isWord_3 ++ []
def dkwX4_isWord_2 : List UInt8 := [153, 0, 35, 42, 42, 180, 0, 101, 21, 4, 96, 182, 0, 104, 43, 21, 4, 182, 0, 130, 160, 0, 7, 4]
abbrev dktX4_isWord_2 : List UInt8 := dkwX4_isWord_2 ++ dktX4_isWord_3
def dkwX4_isWord_1 : List UInt8 := [160, 0, 7, 4, 167, 0, 4, 3, 62, 3, 54, 4, 21, 4, 43, 182, 0, 126, 162, 0, 39, 29]
abbrev dktX4_isWord_1 : List UInt8 := dkwX4_isWord_1 ++ dktX4_isWord_2
def dkwX4_isWord_0 : List UInt8 := [42, 182, 0, 119, 61, 42, 182, 0, 122, 154, 0, 20, 28, 42, 180, 0, 101, 100, 43, 182, 0, 126]
abbrev dktX4_isWord_0 : List UInt8 := dkwX4_isWord_0 ++ dktX4_isWord_1
theorem dksX4_isWord_0 : cX4_isWord.data.toList.drop 0 = dktX4_isWord_0 := sorry
theorem dksX4_isWord_1 : cX4_isWord.data.toList.drop 22 = dktX4_isWord_1 := sorry
theorem dksX4_isWord_2 : cX4_isWord.data.toList.drop 44 = dktX4_isWord_2 := sorry
theorem dksX4_isWord_3 : cX4_isWord.data.toList.drop 68 = dktX4_isWord_3 := sorry
theorem dX4_isWord_0 : decode cX4_isWord 0 = .ok (.aload_n 0, 1) := sorry
theorem dX4_isWord_1 : decode cX4_isWord 1 = .ok (.invokevirtual 119, 3) := sorry
theorem dX4_isWord_4 : decode cX4_isWord 4 = .ok (.istore_n 2, 1) := sorry
theorem dX4_isWord_5 : decode cX4_isWord 5 = .ok (.aload_n 0, 1) := sorry
theorem dX4_isWord_6 : decode cX4_isWord 6 = .ok (.invokevirtual 122, 3) := sorry
theorem dX4_isWord_9 : decode cX4_isWord 9 = .ok (.ifCond .ne 20, 3) := sorry
theorem dX4_isWord_12 : decode cX4_isWord 12 = .ok (.iload_n 2, 1) := sorry
theorem dX4_isWord_13 : decode cX4_isWord 13 = .ok (.aload_n 0, 1) := sorry
theorem dX4_isWord_14 : decode cX4_isWord 14 = .ok (.getfield 101, 3) := sorry
theorem dX4_isWord_17 : decode cX4_isWord 17 = .ok (.isub, 1) := sorry
theorem dX4_isWord_18 : decode cX4_isWord 18 = .ok (.aload_n 1, 1) := sorry
theorem dX4_isWord_19 : decode cX4_isWord 19 = .ok (.invokevirtual 126, 3) := sorry
theorem dX4_isWord_22 : decode cX4_isWord 22 = .ok (.if_icmp .ne 7, 3) := sorry
theorem dX4_isWord_25 : decode cX4_isWord 25 = .ok (.iconst 1, 1) := sorry
theorem dX4_isWord_26 : decode cX4_isWord 26 = .ok (.goto 4, 3) := sorry
theorem dX4_isWord_29 : decode cX4_isWord 29 = .ok (.iconst 0, 1) := sorry
theorem dX4_isWord_30 : decode cX4_isWord 30 = .ok (.istore_n 3, 1) := sorry
theorem dX4_isWord_31 : decode cX4_isWord 31 = .ok (.iconst 0, 1) := sorry
theorem dX4_isWord_32 : decode cX4_isWord 32 = .ok (.istore 4, 2) := sorry
theorem dX4_isWord_34 : decode cX4_isWord 34 = .ok (.iload 4, 2) := sorry
theorem dX4_isWord_36 : decode cX4_isWord 36 = .ok (.aload_n 1, 1) := sorry
theorem dX4_isWord_37 : decode cX4_isWord 37 = .ok (.invokevirtual 126, 3) := sorry
theorem dX4_isWord_40 : decode cX4_isWord 40 = .ok (.if_icmp .ge 39, 3) := sorry
theorem dX4_isWord_43 : decode cX4_isWord 43 = .ok (.iload_n 3, 1) := sorry
theorem dX4_isWord_44 : decode cX4_isWord 44 = .ok (.ifCond .eq 35, 3) := sorry
theorem dX4_isWord_47 : decode cX4_isWord 47 = .ok (.aload_n 0, 1) := sorry
theorem dX4_isWord_48 : decode cX4_isWord 48 = .ok (.aload_n 0, 1) := sorry
theorem dX4_isWord_49 : decode cX4_isWord 49 = .ok (.getfield 101, 3) := sorry
theorem dX4_isWord_52 : decode cX4_isWord 52 = .ok (.iload 4, 2) := sorry
theorem dX4_isWord_54 : decode cX4_isWord 54 = .ok (.iadd, 1) := sorry
theorem dX4_isWord_55 : decode cX4_isWord 55 = .ok (.invokevirtual 104, 3) := sorry
theorem dX4_isWord_58 : decode cX4_isWord 58 = .ok (.aload_n 1, 1) := sorry
theorem dX4_isWord_59 : decode cX4_isWord 59 = .ok (.iload 4, 2) := sorry
theorem dX4_isWord_61 : decode cX4_isWord 61 = .ok (.invokevirtual 130, 3) := sorry
theorem dX4_isWord_64 : decode cX4_isWord 64 = .ok (.if_icmp .ne 7, 3) := sorry
theorem dX4_isWord_67 : decode cX4_isWord 67 = .ok (.iconst 1, 1) := sorry
theorem dX4_isWord_68 : decode cX4_isWord 68 = .ok (.goto 4, 3) := sorry
theorem dX4_isWord_71 : decode cX4_isWord 71 = .ok (.iconst 0, 1) := sorry
theorem dX4_isWord_72 : decode cX4_isWord 72 = .ok (.istore_n 3, 1) := sorry
theorem dX4_isWord_73 : decode cX4_isWord 73 = .ok (.iinc 4 1, 3) := sorry
theorem dX4_isWord_76 : decode cX4_isWord 76 = .ok (.goto (-42), 3) := sorry
theorem dX4_isWord_79 : decode cX4_isWord 79 = .ok (.iload_n 3, 1) := sorry
theorem dX4_isWord_80 : decode cX4_isWord 80 = .ok (.ireturn, 1) := sorry
abbrev cX4_wordEnd : ByteArray := prog_16_method_12_code
def yX4_wordEnd : MethodName := ⟨RX4, "wordEnd", "()I"⟩
def dkwX4_wordEnd_1 : List UInt8 := [153, 0, 9, 132, 1, 1, 167, 255, 238, 27, 172]
abbrev dktX4_wordEnd_1 : List UInt8 := dkwX4_wordEnd_1 ++ []
def dkwX4_wordEnd_0 : List UInt8 := [42, 182, 0, 111, 87, 42, 180, 0, 101, 60, 42, 27, 182, 0, 104, 16, 97, 16, 122, 184, 0, 115]
abbrev dktX4_wordEnd_0 : List UInt8 := dkwX4_wordEnd_0 ++ dktX4_wordEnd_1
theorem dksX4_wordEnd_0 : cX4_wordEnd.data.toList.drop 0 = dktX4_wordEnd_0 := sorry
theorem dksX4_wordEnd_1 : cX4_wordEnd.data.toList.drop 22 = dktX4_wordEnd_1 := sorry
theorem dX4_wordEnd_0 : decode cX4_wordEnd 0 = .ok (.aload_n 0, 1) := sorry
theorem dX4_wordEnd_1 : decode cX4_wordEnd 1 = .ok (.invokevirtual 111, 3) := sorry
theorem dX4_wordEnd_4 : decode cX4_wordEnd 4 = .ok (.pop, 1) := sorry
theorem dX4_wordEnd_5 : decode cX4_wordEnd 5 = .ok (.aload_n 0, 1) := sorry
theorem dX4_wordEnd_6 : decode cX4_wordEnd 6 = .ok (.getfield 101, 3) := sorry
theorem dX4_wordEnd_9 : decode cX4_wordEnd 9 = .ok (.istore_n 1, 1) := sorry
theorem dX4_wordEnd_10 : decode cX4_wordEnd 10 = .ok (.aload_n 0, 1) := sorry
theorem dX4_wordEnd_11 : decode cX4_wordEnd 11 = .ok (.iload_n 1, 1) := sorry
theorem dX4_wordEnd_12 : decode cX4_wordEnd 12 = .ok (.invokevirtual 104, 3) := sorry
theorem dX4_wordEnd_15 : decode cX4_wordEnd 15 = .ok (.bipush 97, 2) := sorry
theorem dX4_wordEnd_17 : decode cX4_wordEnd 17 = .ok (.bipush 122, 2) := sorry
theorem dX4_wordEnd_19 : decode cX4_wordEnd 19 = .ok (.invokestatic 115, 3) := sorry
theorem dX4_wordEnd_22 : decode cX4_wordEnd 22 = .ok (.ifCond .eq 9, 3) := sorry
theorem dX4_wordEnd_25 : decode cX4_wordEnd 25 = .ok (.iinc 1 1, 3) := sorry
theorem dX4_wordEnd_28 : decode cX4_wordEnd 28 = .ok (.goto (-18), 3) := sorry
theorem dX4_wordEnd_31 : decode cX4_wordEnd 31 = .ok (.iload_n 1, 1) := sorry
theorem dX4_wordEnd_32 : decode cX4_wordEnd 32 = .ok (.ireturn, 1) := sorry
abbrev cX4_inRange : ByteArray := prog_16_method_3_code
def yX4_inRange : MethodName := ⟨RX4, "inRange", "(III)Z"⟩
def dkwX4_inRange_0 : List UInt8 := [26, 27, 161, 0, 12, 26, 28, 163, 0, 7, 4, 167, 0, 4, 3, 172]
abbrev dktX4_inRange_0 : List UInt8 := dkwX4_inRange_0 ++ []
theorem dksX4_inRange_0 : cX4_inRange.data.toList.drop 0 = dktX4_inRange_0 := sorry
theorem dX4_inRange_0 : decode cX4_inRange 0 = .ok (.iload_n 0, 1) := sorry
theorem dX4_inRange_1 : decode cX4_inRange 1 = .ok (.iload_n 1, 1) := sorry
theorem dX4_inRange_2 : decode cX4_inRange 2 = .ok (.if_icmp .lt 12, 3) := sorry
theorem dX4_inRange_5 : decode cX4_inRange 5 = .ok (.iload_n 0, 1) := sorry
theorem dX4_inRange_6 : decode cX4_inRange 6 = .ok (.iload_n 2, 1) := sorry
theorem dX4_inRange_7 : decode cX4_inRange 7 = .ok (.if_icmp .gt 7, 3) := sorry
theorem dX4_inRange_10 : decode cX4_inRange 10 = .ok (.iconst 1, 1) := sorry
theorem dX4_inRange_11 : decode cX4_inRange 11 = .ok (.goto 4, 3) := sorry
theorem dX4_inRange_14 : decode cX4_inRange 14 = .ok (.iconst 0, 1) := sorry
theorem dX4_inRange_15 : decode cX4_inRange 15 = .ok (.ireturn, 1) := sorry
abbrev cX4_fail : ByteArray := prog_16_method_11_code
def yX4_fail : MethodName := ⟨RX4, "fail", "(II)V"⟩
def dkwX4_fail_0 : List UInt8 := [42, 180, 0, 108, 154, 0, 13, 42, 27, 181, 0, 108, 42, 28, 181, 0, 62, 177]
abbrev dktX4_fail_0 : List UInt8 := dkwX4_fail_0 ++ []
theorem dksX4_fail_0 : cX4_fail.data.toList.drop 0 = dktX4_fail_0 := sorry
theorem dX4_fail_0 : decode cX4_fail 0 = .ok (.aload_n 0, 1) := sorry
theorem dX4_fail_1 : decode cX4_fail 1 = .ok (.getfield 108, 3) := sorry
theorem dX4_fail_4 : decode cX4_fail 4 = .ok (.ifCond .ne 13, 3) := sorry
theorem dX4_fail_7 : decode cX4_fail 7 = .ok (.aload_n 0, 1) := sorry
theorem dX4_fail_8 : decode cX4_fail 8 = .ok (.iload_n 1, 1) := sorry
theorem dX4_fail_9 : decode cX4_fail 9 = .ok (.putfield 108, 3) := sorry
theorem dX4_fail_12 : decode cX4_fail 12 = .ok (.aload_n 0, 1) := sorry
theorem dX4_fail_13 : decode cX4_fail 13 = .ok (.iload_n 2, 1) := sorry
theorem dX4_fail_14 : decode cX4_fail 14 = .ok (.putfield 62, 3) := sorry
theorem dX4_fail_17 : decode cX4_fail 17 = .ok (.return_, 1) := sorry
abbrev cX4_accept : ByteArray := prog_16_method_14_code
def yX4_accept : MethodName := ⟨RX4, "accept", "(Ljava/lang/String;)Z"⟩
def dkwX4_accept_1 : List UInt8 := [181, 0, 101, 28, 172]
abbrev dktX4_accept_1 : List UInt8 := dkwX4_accept_1 ++ []
def dkwX4_accept_0 : List UInt8 := [42, 43, 182, 0, 134, 61, 42, 89, 180, 0, 101, 28, 153, 0, 10, 43, 182, 0, 126, 167, 0, 4, 3, 96]
abbrev dktX4_accept_0 : List UInt8 := dkwX4_accept_0 ++ dktX4_accept_1
theorem dksX4_accept_0 : cX4_accept.data.toList.drop 0 = dktX4_accept_0 := sorry
theorem dksX4_accept_1 : cX4_accept.data.toList.drop 24 = dktX4_accept_1 := sorry
theorem dX4_accept_0 : decode cX4_accept 0 = .ok (.aload_n 0, 1) := sorry
theorem dX4_accept_1 : decode cX4_accept 1 = .ok (.aload_n 1, 1) := sorry
theorem dX4_accept_2 : decode cX4_accept 2 = .ok (.invokevirtual 134, 3) := sorry
theorem dX4_accept_5 : decode cX4_accept 5 = .ok (.istore_n 2, 1) := sorry
theorem dX4_accept_6 : decode cX4_accept 6 = .ok (.aload_n 0, 1) := sorry
theorem dX4_accept_7 : decode cX4_accept 7 = .ok (.dup, 1) := sorry
theorem dX4_accept_8 : decode cX4_accept 8 = .ok (.getfield 101, 3) := sorry
theorem dX4_accept_11 : decode cX4_accept 11 = .ok (.iload_n 2, 1) := sorry
theorem dX4_accept_12 : decode cX4_accept 12 = .ok (.ifCond .eq 10, 3) := sorry
theorem dX4_accept_15 : decode cX4_accept 15 = .ok (.aload_n 1, 1) := sorry
theorem dX4_accept_16 : decode cX4_accept 16 = .ok (.invokevirtual 126, 3) := sorry
theorem dX4_accept_19 : decode cX4_accept 19 = .ok (.goto 4, 3) := sorry
theorem dX4_accept_22 : decode cX4_accept 22 = .ok (.iconst 0, 1) := sorry
theorem dX4_accept_23 : decode cX4_accept 23 = .ok (.iadd, 1) := sorry
theorem dX4_accept_24 : decode cX4_accept 24 = .ok (.putfield 101, 3) := sorry
theorem dX4_accept_27 : decode cX4_accept 27 = .ok (.iload_n 2, 1) := sorry
theorem dX4_accept_28 : decode cX4_accept 28 = .ok (.ireturn, 1) := sorry
abbrev cX4_digits : ByteArray := prog_16_method_16_code
def yX4_digits : MethodName := ⟨RX4, "digits", "(II)I"⟩
def dkwX4_digits_5 : List UInt8 := [21, 4, 27, 28, 184, 0, 115, 154, 0, 9, 42, 5, 29, 182, 0, 141, 21, 4, 172]
abbrev dktX4_digits_5 : List UInt8 := dkwX4_digits_5 ++ []
def dkwX4_digits_4 : List UInt8 := [160, 0, 12, 42, 4, 29, 182, 0, 141, 167, 0, 30, 42, 180, 0, 101, 29, 100, 16, 6, 163, 0, 13]
abbrev dktX4_digits_4 : List UInt8 := dkwX4_digits_4 ++ dktX4_digits_5
def dkwX4_digits_3 : List UInt8 := [21, 4, 54, 4, 42, 89, 180, 0, 101, 4, 96, 181, 0, 101, 167, 255, 193, 42, 180, 0, 101, 29]
abbrev dktX4_digits_3 : List UInt8 := dkwX4_digits_3 ++ dktX4_digits_4
def dkwX4_digits_2 : List UInt8 := [162, 0, 23, 16, 10, 21, 4, 104, 42, 42, 180, 0, 101, 182, 0, 104, 96, 16, 48, 100, 167, 0, 5]
abbrev dktX4_digits_2 : List UInt8 := dkwX4_digits_2 ++ dktX4_digits_3
def dkwX4_digits_1 : List UInt8 := [180, 0, 101, 182, 0, 104, 16, 48, 16, 57, 184, 0, 115, 153, 0, 51, 42, 180, 0, 101, 29, 100, 16, 6]
abbrev dktX4_digits_1 : List UInt8 := dkwX4_digits_1 ++ dktX4_digits_2
def dkwX4_digits_0 : List UInt8 := [42, 182, 0, 122, 153, 0, 5, 27, 172, 42, 182, 0, 111, 87, 42, 180, 0, 101, 62, 3, 54, 4, 42, 42]
abbrev dktX4_digits_0 : List UInt8 := dkwX4_digits_0 ++ dktX4_digits_1
theorem dksX4_digits_0 : cX4_digits.data.toList.drop 0 = dktX4_digits_0 := sorry
theorem dksX4_digits_1 : cX4_digits.data.toList.drop 24 = dktX4_digits_1 := sorry
theorem dksX4_digits_2 : cX4_digits.data.toList.drop 48 = dktX4_digits_2 := sorry
theorem dksX4_digits_3 : cX4_digits.data.toList.drop 71 = dktX4_digits_3 := sorry
theorem dksX4_digits_4 : cX4_digits.data.toList.drop 93 = dktX4_digits_4 := sorry
theorem dksX4_digits_5 : cX4_digits.data.toList.drop 116 = dktX4_digits_5 := sorry
theorem dX4_digits_0 : decode cX4_digits 0 = .ok (.aload_n 0, 1) := sorry
theorem dX4_digits_1 : decode cX4_digits 1 = .ok (.invokevirtual 122, 3) := sorry
theorem dX4_digits_4 : decode cX4_digits 4 = .ok (.ifCond .eq 5, 3) := sorry
theorem dX4_digits_7 : decode cX4_digits 7 = .ok (.iload_n 1, 1) := sorry
theorem dX4_digits_8 : decode cX4_digits 8 = .ok (.ireturn, 1) := sorry
theorem dX4_digits_9 : decode cX4_digits 9 = .ok (.aload_n 0, 1) := sorry
theorem dX4_digits_10 : decode cX4_digits 10 = .ok (.invokevirtual 111, 3) := sorry
theorem dX4_digits_13 : decode cX4_digits 13 = .ok (.pop, 1) := sorry
theorem dX4_digits_14 : decode cX4_digits 14 = .ok (.aload_n 0, 1) := sorry
theorem dX4_digits_15 : decode cX4_digits 15 = .ok (.getfield 101, 3) := sorry
theorem dX4_digits_18 : decode cX4_digits 18 = .ok (.istore_n 3, 1) := sorry
theorem dX4_digits_19 : decode cX4_digits 19 = .ok (.iconst 0, 1) := sorry
theorem dX4_digits_20 : decode cX4_digits 20 = .ok (.istore 4, 2) := sorry
theorem dX4_digits_22 : decode cX4_digits 22 = .ok (.aload_n 0, 1) := sorry
theorem dX4_digits_23 : decode cX4_digits 23 = .ok (.aload_n 0, 1) := sorry
theorem dX4_digits_24 : decode cX4_digits 24 = .ok (.getfield 101, 3) := sorry
theorem dX4_digits_27 : decode cX4_digits 27 = .ok (.invokevirtual 104, 3) := sorry
theorem dX4_digits_30 : decode cX4_digits 30 = .ok (.bipush 48, 2) := sorry
theorem dX4_digits_32 : decode cX4_digits 32 = .ok (.bipush 57, 2) := sorry
theorem dX4_digits_34 : decode cX4_digits 34 = .ok (.invokestatic 115, 3) := sorry
theorem dX4_digits_37 : decode cX4_digits 37 = .ok (.ifCond .eq 51, 3) := sorry
theorem dX4_digits_40 : decode cX4_digits 40 = .ok (.aload_n 0, 1) := sorry
theorem dX4_digits_41 : decode cX4_digits 41 = .ok (.getfield 101, 3) := sorry
theorem dX4_digits_44 : decode cX4_digits 44 = .ok (.iload_n 3, 1) := sorry
theorem dX4_digits_45 : decode cX4_digits 45 = .ok (.isub, 1) := sorry
theorem dX4_digits_46 : decode cX4_digits 46 = .ok (.bipush 6, 2) := sorry
theorem dX4_digits_48 : decode cX4_digits 48 = .ok (.if_icmp .ge 23, 3) := sorry
theorem dX4_digits_51 : decode cX4_digits 51 = .ok (.bipush 10, 2) := sorry
theorem dX4_digits_53 : decode cX4_digits 53 = .ok (.iload 4, 2) := sorry
theorem dX4_digits_55 : decode cX4_digits 55 = .ok (.imul, 1) := sorry
theorem dX4_digits_56 : decode cX4_digits 56 = .ok (.aload_n 0, 1) := sorry
theorem dX4_digits_57 : decode cX4_digits 57 = .ok (.aload_n 0, 1) := sorry
theorem dX4_digits_58 : decode cX4_digits 58 = .ok (.getfield 101, 3) := sorry
theorem dX4_digits_61 : decode cX4_digits 61 = .ok (.invokevirtual 104, 3) := sorry
theorem dX4_digits_64 : decode cX4_digits 64 = .ok (.iadd, 1) := sorry
theorem dX4_digits_65 : decode cX4_digits 65 = .ok (.bipush 48, 2) := sorry
theorem dX4_digits_67 : decode cX4_digits 67 = .ok (.isub, 1) := sorry
theorem dX4_digits_68 : decode cX4_digits 68 = .ok (.goto 5, 3) := sorry
theorem dX4_digits_71 : decode cX4_digits 71 = .ok (.iload 4, 2) := sorry
theorem dX4_digits_73 : decode cX4_digits 73 = .ok (.istore 4, 2) := sorry
theorem dX4_digits_75 : decode cX4_digits 75 = .ok (.aload_n 0, 1) := sorry
theorem dX4_digits_76 : decode cX4_digits 76 = .ok (.dup, 1) := sorry
theorem dX4_digits_77 : decode cX4_digits 77 = .ok (.getfield 101, 3) := sorry
theorem dX4_digits_80 : decode cX4_digits 80 = .ok (.iconst 1, 1) := sorry
theorem dX4_digits_81 : decode cX4_digits 81 = .ok (.iadd, 1) := sorry
theorem dX4_digits_82 : decode cX4_digits 82 = .ok (.putfield 101, 3) := sorry
theorem dX4_digits_85 : decode cX4_digits 85 = .ok (.goto (-63), 3) := sorry
theorem dX4_digits_88 : decode cX4_digits 88 = .ok (.aload_n 0, 1) := sorry
theorem dX4_digits_89 : decode cX4_digits 89 = .ok (.getfield 101, 3) := sorry
theorem dX4_digits_92 : decode cX4_digits 92 = .ok (.iload_n 3, 1) := sorry
theorem dX4_digits_93 : decode cX4_digits 93 = .ok (.if_icmp .ne 12, 3) := sorry
theorem dX4_digits_96 : decode cX4_digits 96 = .ok (.aload_n 0, 1) := sorry
theorem dX4_digits_97 : decode cX4_digits 97 = .ok (.iconst 1, 1) := sorry
theorem dX4_digits_98 : decode cX4_digits 98 = .ok (.iload_n 3, 1) := sorry
theorem dX4_digits_99 : decode cX4_digits 99 = .ok (.invokevirtual 141, 3) := sorry
theorem dX4_digits_102 : decode cX4_digits 102 = .ok (.goto 30, 3) := sorry
theorem dX4_digits_105 : decode cX4_digits 105 = .ok (.aload_n 0, 1) := sorry
theorem dX4_digits_106 : decode cX4_digits 106 = .ok (.getfield 101, 3) := sorry
theorem dX4_digits_109 : decode cX4_digits 109 = .ok (.iload_n 3, 1) := sorry
theorem dX4_digits_110 : decode cX4_digits 110 = .ok (.isub, 1) := sorry
theorem dX4_digits_111 : decode cX4_digits 111 = .ok (.bipush 6, 2) := sorry
theorem dX4_digits_113 : decode cX4_digits 113 = .ok (.if_icmp .gt 13, 3) := sorry
theorem dX4_digits_116 : decode cX4_digits 116 = .ok (.iload 4, 2) := sorry
theorem dX4_digits_118 : decode cX4_digits 118 = .ok (.iload_n 1, 1) := sorry
theorem dX4_digits_119 : decode cX4_digits 119 = .ok (.iload_n 2, 1) := sorry
theorem dX4_digits_120 : decode cX4_digits 120 = .ok (.invokestatic 115, 3) := sorry
theorem dX4_digits_123 : decode cX4_digits 123 = .ok (.ifCond .ne 9, 3) := sorry
theorem dX4_digits_126 : decode cX4_digits 126 = .ok (.aload_n 0, 1) := sorry
theorem dX4_digits_127 : decode cX4_digits 127 = .ok (.iconst 2, 1) := sorry
theorem dX4_digits_128 : decode cX4_digits 128 = .ok (.iload_n 3, 1) := sorry
theorem dX4_digits_129 : decode cX4_digits 129 = .ok (.invokevirtual 141, 3) := sorry
theorem dX4_digits_132 : decode cX4_digits 132 = .ok (.iload 4, 2) := sorry
theorem dX4_digits_134 : decode cX4_digits 134 = .ok (.ireturn, 1) := sorry
abbrev cX4_batchLine : ByteArray := prog_16_method_18_code
def yX4_batchLine : MethodName := ⟨RX4, "batchLine", "()V"⟩
def dkwX4_batchLine_9 : List UInt8 := [153, 0, 7, 3, 167, 0, 4, 4, 96, 181, 0, 153, 177]
abbrev dktX4_batchLine_9 : List UInt8 := dkwX4_batchLine_9 ++ []
def dkwX4_batchLine_8 : List UInt8 := [180, 0, 86, 29, 51, 154, 0, 9, 42, 18, 173, 182, 0, 158, 42, 89, 180, 0, 153, 42, 182, 0, 122]
abbrev dktX4_batchLine_8 : List UInt8 := dkwX4_batchLine_8 ++ dktX4_batchLine_9
def dkwX4_batchLine_7 : List UInt8 := [180, 0, 83, 29, 42, 18, 170, 182, 0, 138, 84, 42, 180, 0, 86, 29, 42, 18, 172, 182, 0, 138, 84, 42]
abbrev dktX4_batchLine_7 : List UInt8 := dkwX4_batchLine_7 ++ dktX4_batchLine_8
def dkwX4_batchLine_6 : List UInt8 := [182, 0, 163, 79, 42, 18, 169, 182, 0, 158, 42, 180, 0, 80, 29, 42, 4, 16, 6, 182, 0, 163, 79, 42]
abbrev dktX4_batchLine_6 : List UInt8 := dkwX4_batchLine_6 ++ dktX4_batchLine_7
def dkwX4_batchLine_5 : List UInt8 := [4, 16, 40, 182, 0, 163, 79, 42, 18, 168, 182, 0, 158, 42, 180, 0, 77, 29, 42, 3, 17, 3, 231]
abbrev dktX4_batchLine_5 : List UInt8 := dkwX4_batchLine_5 ++ dktX4_batchLine_6
def dkwX4_batchLine_4 : List UInt8 := [180, 0, 71, 29, 42, 3, 18, 162, 182, 0, 163, 79, 42, 18, 167, 182, 0, 158, 42, 180, 0, 74, 29, 42]
abbrev dktX4_batchLine_4 : List UInt8 := dkwX4_batchLine_4 ++ dktX4_batchLine_5
def dkwX4_batchLine_3 : List UInt8 := [181, 0, 101, 42, 180, 0, 153, 62, 42, 180, 0, 68, 29, 31, 80, 42, 18, 156, 182, 0, 158, 42]
abbrev dktX4_batchLine_3 : List UInt8 := dkwX4_batchLine_3 ++ dktX4_batchLine_4
def dkwX4_batchLine_2 : List UInt8 := [167, 255, 218, 42, 42, 182, 0, 122, 153, 0, 10, 42, 180, 0, 101, 167, 0, 7, 42, 182, 0, 119]
abbrev dktX4_batchLine_2 : List UInt8 := dkwX4_batchLine_2 ++ dktX4_batchLine_3
def dkwX4_batchLine_1 : List UInt8 := [180, 0, 68, 29, 47, 31, 148, 154, 0, 12, 42, 6, 42, 180, 0, 101, 182, 0, 141, 132, 3, 1]
abbrev dktX4_batchLine_1 : List UInt8 := dkwX4_batchLine_1 ++ dktX4_batchLine_2
def dkwX4_batchLine_0 : List UInt8 := [42, 182, 0, 149, 64, 3, 62, 29, 42, 180, 0, 153, 162, 0, 36, 42, 182, 0, 122, 154, 0, 23, 42]
abbrev dktX4_batchLine_0 : List UInt8 := dkwX4_batchLine_0 ++ dktX4_batchLine_1
theorem dksX4_batchLine_0 : cX4_batchLine.data.toList.drop 0 = dktX4_batchLine_0 := sorry
theorem dksX4_batchLine_1 : cX4_batchLine.data.toList.drop 23 = dktX4_batchLine_1 := sorry
theorem dksX4_batchLine_2 : cX4_batchLine.data.toList.drop 45 = dktX4_batchLine_2 := sorry
theorem dksX4_batchLine_3 : cX4_batchLine.data.toList.drop 67 = dktX4_batchLine_3 := sorry
theorem dksX4_batchLine_4 : cX4_batchLine.data.toList.drop 89 = dktX4_batchLine_4 := sorry
theorem dksX4_batchLine_5 : cX4_batchLine.data.toList.drop 113 = dktX4_batchLine_5 := sorry
theorem dksX4_batchLine_6 : cX4_batchLine.data.toList.drop 136 = dktX4_batchLine_6 := sorry
theorem dksX4_batchLine_7 : cX4_batchLine.data.toList.drop 160 = dktX4_batchLine_7 := sorry
theorem dksX4_batchLine_8 : cX4_batchLine.data.toList.drop 184 = dktX4_batchLine_8 := sorry
theorem dksX4_batchLine_9 : cX4_batchLine.data.toList.drop 207 = dktX4_batchLine_9 := sorry
theorem dX4_batchLine_0 : decode cX4_batchLine 0 = .ok (.aload_n 0, 1) := sorry
theorem dX4_batchLine_1 : decode cX4_batchLine 1 = .ok (.invokevirtual 149, 3) := sorry
theorem dX4_batchLine_4 : decode cX4_batchLine 4 = .ok (.lstore_n 1, 1) := sorry
theorem dX4_batchLine_5 : decode cX4_batchLine 5 = .ok (.iconst 0, 1) := sorry
theorem dX4_batchLine_6 : decode cX4_batchLine 6 = .ok (.istore_n 3, 1) := sorry
theorem dX4_batchLine_7 : decode cX4_batchLine 7 = .ok (.iload_n 3, 1) := sorry
theorem dX4_batchLine_8 : decode cX4_batchLine 8 = .ok (.aload_n 0, 1) := sorry
theorem dX4_batchLine_9 : decode cX4_batchLine 9 = .ok (.getfield 153, 3) := sorry
theorem dX4_batchLine_12 : decode cX4_batchLine 12 = .ok (.if_icmp .ge 36, 3) := sorry
theorem dX4_batchLine_15 : decode cX4_batchLine 15 = .ok (.aload_n 0, 1) := sorry
theorem dX4_batchLine_16 : decode cX4_batchLine 16 = .ok (.invokevirtual 122, 3) := sorry
theorem dX4_batchLine_19 : decode cX4_batchLine 19 = .ok (.ifCond .ne 23, 3) := sorry
theorem dX4_batchLine_22 : decode cX4_batchLine 22 = .ok (.aload_n 0, 1) := sorry
theorem dX4_batchLine_23 : decode cX4_batchLine 23 = .ok (.getfield 68, 3) := sorry
theorem dX4_batchLine_26 : decode cX4_batchLine 26 = .ok (.iload_n 3, 1) := sorry
theorem dX4_batchLine_27 : decode cX4_batchLine 27 = .ok (.laload, 1) := sorry
theorem dX4_batchLine_28 : decode cX4_batchLine 28 = .ok (.lload_n 1, 1) := sorry
theorem dX4_batchLine_29 : decode cX4_batchLine 29 = .ok (.lcmp, 1) := sorry
theorem dX4_batchLine_30 : decode cX4_batchLine 30 = .ok (.ifCond .ne 12, 3) := sorry
theorem dX4_batchLine_33 : decode cX4_batchLine 33 = .ok (.aload_n 0, 1) := sorry
theorem dX4_batchLine_34 : decode cX4_batchLine 34 = .ok (.iconst 3, 1) := sorry
theorem dX4_batchLine_35 : decode cX4_batchLine 35 = .ok (.aload_n 0, 1) := sorry
theorem dX4_batchLine_36 : decode cX4_batchLine 36 = .ok (.getfield 101, 3) := sorry
theorem dX4_batchLine_39 : decode cX4_batchLine 39 = .ok (.invokevirtual 141, 3) := sorry
theorem dX4_batchLine_42 : decode cX4_batchLine 42 = .ok (.iinc 3 1, 3) := sorry
theorem dX4_batchLine_45 : decode cX4_batchLine 45 = .ok (.goto (-38), 3) := sorry
theorem dX4_batchLine_48 : decode cX4_batchLine 48 = .ok (.aload_n 0, 1) := sorry
theorem dX4_batchLine_49 : decode cX4_batchLine 49 = .ok (.aload_n 0, 1) := sorry
theorem dX4_batchLine_50 : decode cX4_batchLine 50 = .ok (.invokevirtual 122, 3) := sorry
theorem dX4_batchLine_53 : decode cX4_batchLine 53 = .ok (.ifCond .eq 10, 3) := sorry
theorem dX4_batchLine_56 : decode cX4_batchLine 56 = .ok (.aload_n 0, 1) := sorry
theorem dX4_batchLine_57 : decode cX4_batchLine 57 = .ok (.getfield 101, 3) := sorry
theorem dX4_batchLine_60 : decode cX4_batchLine 60 = .ok (.goto 7, 3) := sorry
theorem dX4_batchLine_63 : decode cX4_batchLine 63 = .ok (.aload_n 0, 1) := sorry
theorem dX4_batchLine_64 : decode cX4_batchLine 64 = .ok (.invokevirtual 119, 3) := sorry
theorem dX4_batchLine_67 : decode cX4_batchLine 67 = .ok (.putfield 101, 3) := sorry
theorem dX4_batchLine_70 : decode cX4_batchLine 70 = .ok (.aload_n 0, 1) := sorry
theorem dX4_batchLine_71 : decode cX4_batchLine 71 = .ok (.getfield 153, 3) := sorry
theorem dX4_batchLine_74 : decode cX4_batchLine 74 = .ok (.istore_n 3, 1) := sorry
theorem dX4_batchLine_75 : decode cX4_batchLine 75 = .ok (.aload_n 0, 1) := sorry
theorem dX4_batchLine_76 : decode cX4_batchLine 76 = .ok (.getfield 68, 3) := sorry
theorem dX4_batchLine_79 : decode cX4_batchLine 79 = .ok (.iload_n 3, 1) := sorry
theorem dX4_batchLine_80 : decode cX4_batchLine 80 = .ok (.lload_n 1, 1) := sorry
theorem dX4_batchLine_81 : decode cX4_batchLine 81 = .ok (.lastore, 1) := sorry
theorem dX4_batchLine_82 : decode cX4_batchLine 82 = .ok (.aload_n 0, 1) := sorry
theorem dX4_batchLine_83 : decode cX4_batchLine 83 = .ok (.ldc 156, 2) := sorry
theorem dX4_batchLine_85 : decode cX4_batchLine 85 = .ok (.invokevirtual 158, 3) := sorry
theorem dX4_batchLine_88 : decode cX4_batchLine 88 = .ok (.aload_n 0, 1) := sorry
theorem dX4_batchLine_89 : decode cX4_batchLine 89 = .ok (.getfield 71, 3) := sorry
theorem dX4_batchLine_92 : decode cX4_batchLine 92 = .ok (.iload_n 3, 1) := sorry
theorem dX4_batchLine_93 : decode cX4_batchLine 93 = .ok (.aload_n 0, 1) := sorry
theorem dX4_batchLine_94 : decode cX4_batchLine 94 = .ok (.iconst 0, 1) := sorry
theorem dX4_batchLine_95 : decode cX4_batchLine 95 = .ok (.ldc 162, 2) := sorry
theorem dX4_batchLine_97 : decode cX4_batchLine 97 = .ok (.invokevirtual 163, 3) := sorry
theorem dX4_batchLine_100 : decode cX4_batchLine 100 = .ok (.iastore, 1) := sorry
theorem dX4_batchLine_101 : decode cX4_batchLine 101 = .ok (.aload_n 0, 1) := sorry
theorem dX4_batchLine_102 : decode cX4_batchLine 102 = .ok (.ldc 167, 2) := sorry
theorem dX4_batchLine_104 : decode cX4_batchLine 104 = .ok (.invokevirtual 158, 3) := sorry
theorem dX4_batchLine_107 : decode cX4_batchLine 107 = .ok (.aload_n 0, 1) := sorry
theorem dX4_batchLine_108 : decode cX4_batchLine 108 = .ok (.getfield 74, 3) := sorry
theorem dX4_batchLine_111 : decode cX4_batchLine 111 = .ok (.iload_n 3, 1) := sorry
theorem dX4_batchLine_112 : decode cX4_batchLine 112 = .ok (.aload_n 0, 1) := sorry
theorem dX4_batchLine_113 : decode cX4_batchLine 113 = .ok (.iconst 1, 1) := sorry
theorem dX4_batchLine_114 : decode cX4_batchLine 114 = .ok (.bipush 40, 2) := sorry
theorem dX4_batchLine_116 : decode cX4_batchLine 116 = .ok (.invokevirtual 163, 3) := sorry
theorem dX4_batchLine_119 : decode cX4_batchLine 119 = .ok (.iastore, 1) := sorry
theorem dX4_batchLine_120 : decode cX4_batchLine 120 = .ok (.aload_n 0, 1) := sorry
theorem dX4_batchLine_121 : decode cX4_batchLine 121 = .ok (.ldc 168, 2) := sorry
theorem dX4_batchLine_123 : decode cX4_batchLine 123 = .ok (.invokevirtual 158, 3) := sorry
theorem dX4_batchLine_126 : decode cX4_batchLine 126 = .ok (.aload_n 0, 1) := sorry
theorem dX4_batchLine_127 : decode cX4_batchLine 127 = .ok (.getfield 77, 3) := sorry
theorem dX4_batchLine_130 : decode cX4_batchLine 130 = .ok (.iload_n 3, 1) := sorry
theorem dX4_batchLine_131 : decode cX4_batchLine 131 = .ok (.aload_n 0, 1) := sorry
theorem dX4_batchLine_132 : decode cX4_batchLine 132 = .ok (.iconst 0, 1) := sorry
theorem dX4_batchLine_133 : decode cX4_batchLine 133 = .ok (.sipush 999, 3) := sorry
theorem dX4_batchLine_136 : decode cX4_batchLine 136 = .ok (.invokevirtual 163, 3) := sorry
theorem dX4_batchLine_139 : decode cX4_batchLine 139 = .ok (.iastore, 1) := sorry
theorem dX4_batchLine_140 : decode cX4_batchLine 140 = .ok (.aload_n 0, 1) := sorry
theorem dX4_batchLine_141 : decode cX4_batchLine 141 = .ok (.ldc 169, 2) := sorry
theorem dX4_batchLine_143 : decode cX4_batchLine 143 = .ok (.invokevirtual 158, 3) := sorry
theorem dX4_batchLine_146 : decode cX4_batchLine 146 = .ok (.aload_n 0, 1) := sorry
theorem dX4_batchLine_147 : decode cX4_batchLine 147 = .ok (.getfield 80, 3) := sorry
theorem dX4_batchLine_150 : decode cX4_batchLine 150 = .ok (.iload_n 3, 1) := sorry
theorem dX4_batchLine_151 : decode cX4_batchLine 151 = .ok (.aload_n 0, 1) := sorry
theorem dX4_batchLine_152 : decode cX4_batchLine 152 = .ok (.iconst 1, 1) := sorry
theorem dX4_batchLine_153 : decode cX4_batchLine 153 = .ok (.bipush 6, 2) := sorry
theorem dX4_batchLine_155 : decode cX4_batchLine 155 = .ok (.invokevirtual 163, 3) := sorry
theorem dX4_batchLine_158 : decode cX4_batchLine 158 = .ok (.iastore, 1) := sorry
theorem dX4_batchLine_159 : decode cX4_batchLine 159 = .ok (.aload_n 0, 1) := sorry
theorem dX4_batchLine_160 : decode cX4_batchLine 160 = .ok (.getfield 83, 3) := sorry
theorem dX4_batchLine_163 : decode cX4_batchLine 163 = .ok (.iload_n 3, 1) := sorry
theorem dX4_batchLine_164 : decode cX4_batchLine 164 = .ok (.aload_n 0, 1) := sorry
theorem dX4_batchLine_165 : decode cX4_batchLine 165 = .ok (.ldc 170, 2) := sorry
theorem dX4_batchLine_167 : decode cX4_batchLine 167 = .ok (.invokevirtual 138, 3) := sorry
theorem dX4_batchLine_170 : decode cX4_batchLine 170 = .ok (.bastore, 1) := sorry
theorem dX4_batchLine_171 : decode cX4_batchLine 171 = .ok (.aload_n 0, 1) := sorry
theorem dX4_batchLine_172 : decode cX4_batchLine 172 = .ok (.getfield 86, 3) := sorry
theorem dX4_batchLine_175 : decode cX4_batchLine 175 = .ok (.iload_n 3, 1) := sorry
theorem dX4_batchLine_176 : decode cX4_batchLine 176 = .ok (.aload_n 0, 1) := sorry
theorem dX4_batchLine_177 : decode cX4_batchLine 177 = .ok (.ldc 172, 2) := sorry
theorem dX4_batchLine_179 : decode cX4_batchLine 179 = .ok (.invokevirtual 138, 3) := sorry
theorem dX4_batchLine_182 : decode cX4_batchLine 182 = .ok (.bastore, 1) := sorry
theorem dX4_batchLine_183 : decode cX4_batchLine 183 = .ok (.aload_n 0, 1) := sorry
theorem dX4_batchLine_184 : decode cX4_batchLine 184 = .ok (.getfield 86, 3) := sorry
theorem dX4_batchLine_187 : decode cX4_batchLine 187 = .ok (.iload_n 3, 1) := sorry
theorem dX4_batchLine_188 : decode cX4_batchLine 188 = .ok (.baload, 1) := sorry
theorem dX4_batchLine_189 : decode cX4_batchLine 189 = .ok (.ifCond .ne 9, 3) := sorry
theorem dX4_batchLine_192 : decode cX4_batchLine 192 = .ok (.aload_n 0, 1) := sorry
theorem dX4_batchLine_193 : decode cX4_batchLine 193 = .ok (.ldc 173, 2) := sorry
theorem dX4_batchLine_195 : decode cX4_batchLine 195 = .ok (.invokevirtual 158, 3) := sorry
theorem dX4_batchLine_198 : decode cX4_batchLine 198 = .ok (.aload_n 0, 1) := sorry
theorem dX4_batchLine_199 : decode cX4_batchLine 199 = .ok (.dup, 1) := sorry
theorem dX4_batchLine_200 : decode cX4_batchLine 200 = .ok (.getfield 153, 3) := sorry
theorem dX4_batchLine_203 : decode cX4_batchLine 203 = .ok (.aload_n 0, 1) := sorry
theorem dX4_batchLine_204 : decode cX4_batchLine 204 = .ok (.invokevirtual 122, 3) := sorry
theorem dX4_batchLine_207 : decode cX4_batchLine 207 = .ok (.ifCond .eq 7, 3) := sorry
theorem dX4_batchLine_210 : decode cX4_batchLine 210 = .ok (.iconst 0, 1) := sorry
theorem dX4_batchLine_211 : decode cX4_batchLine 211 = .ok (.goto 4, 3) := sorry
theorem dX4_batchLine_214 : decode cX4_batchLine 214 = .ok (.iconst 1, 1) := sorry
theorem dX4_batchLine_215 : decode cX4_batchLine 215 = .ok (.iadd, 1) := sorry
theorem dX4_batchLine_216 : decode cX4_batchLine 216 = .ok (.putfield 153, 3) := sorry
theorem dX4_batchLine_219 : decode cX4_batchLine 219 = .ok (.return_, 1) := sorry
abbrev cX4_packed : ByteArray := prog_16_method_17_code
def yX4_packed : MethodName := ⟨RX4, "packed", "()J"⟩
def dkwX4_packed_3 : List UInt8 := [182, 0, 104, 133, 97, 20, 0, 147, 101, 65, 132, 4, 1, 167, 255, 222, 32, 173]
abbrev dktX4_packed_3 : List UInt8 := dkwX4_packed_3 ++ []
def dkwX4_packed_2 : List UInt8 := [54, 4, 21, 4, 27, 162, 0, 34, 42, 182, 0, 122, 154, 0, 27, 32, 20, 0, 145, 105, 42, 21, 4]
abbrev dktX4_packed_2 : List UInt8 := dkwX4_packed_2 ++ dktX4_packed_3
def dkwX4_packed_1 : List UInt8 := [180, 0, 101, 100, 16, 6, 164, 0, 12, 42, 4, 42, 180, 0, 101, 182, 0, 141, 9, 65, 42, 180, 0, 101]
abbrev dktX4_packed_1 : List UInt8 := dkwX4_packed_1 ++ dktX4_packed_2
def dkwX4_packed_0 : List UInt8 := [42, 182, 0, 119, 60, 42, 182, 0, 122, 154, 0, 31, 27, 42, 180, 0, 101, 159, 0, 14, 27, 42]
abbrev dktX4_packed_0 : List UInt8 := dkwX4_packed_0 ++ dktX4_packed_1
theorem dksX4_packed_0 : cX4_packed.data.toList.drop 0 = dktX4_packed_0 := sorry
theorem dksX4_packed_1 : cX4_packed.data.toList.drop 22 = dktX4_packed_1 := sorry
theorem dksX4_packed_2 : cX4_packed.data.toList.drop 46 = dktX4_packed_2 := sorry
theorem dksX4_packed_3 : cX4_packed.data.toList.drop 69 = dktX4_packed_3 := sorry
theorem dX4_packed_0 : decode cX4_packed 0 = .ok (.aload_n 0, 1) := sorry
theorem dX4_packed_1 : decode cX4_packed 1 = .ok (.invokevirtual 119, 3) := sorry
theorem dX4_packed_4 : decode cX4_packed 4 = .ok (.istore_n 1, 1) := sorry
theorem dX4_packed_5 : decode cX4_packed 5 = .ok (.aload_n 0, 1) := sorry
theorem dX4_packed_6 : decode cX4_packed 6 = .ok (.invokevirtual 122, 3) := sorry
theorem dX4_packed_9 : decode cX4_packed 9 = .ok (.ifCond .ne 31, 3) := sorry
theorem dX4_packed_12 : decode cX4_packed 12 = .ok (.iload_n 1, 1) := sorry
theorem dX4_packed_13 : decode cX4_packed 13 = .ok (.aload_n 0, 1) := sorry
theorem dX4_packed_14 : decode cX4_packed 14 = .ok (.getfield 101, 3) := sorry
theorem dX4_packed_17 : decode cX4_packed 17 = .ok (.if_icmp .eq 14, 3) := sorry
theorem dX4_packed_20 : decode cX4_packed 20 = .ok (.iload_n 1, 1) := sorry
theorem dX4_packed_21 : decode cX4_packed 21 = .ok (.aload_n 0, 1) := sorry
theorem dX4_packed_22 : decode cX4_packed 22 = .ok (.getfield 101, 3) := sorry
theorem dX4_packed_25 : decode cX4_packed 25 = .ok (.isub, 1) := sorry
theorem dX4_packed_26 : decode cX4_packed 26 = .ok (.bipush 6, 2) := sorry
theorem dX4_packed_28 : decode cX4_packed 28 = .ok (.if_icmp .le 12, 3) := sorry
theorem dX4_packed_31 : decode cX4_packed 31 = .ok (.aload_n 0, 1) := sorry
theorem dX4_packed_32 : decode cX4_packed 32 = .ok (.iconst 1, 1) := sorry
theorem dX4_packed_33 : decode cX4_packed 33 = .ok (.aload_n 0, 1) := sorry
theorem dX4_packed_34 : decode cX4_packed 34 = .ok (.getfield 101, 3) := sorry
theorem dX4_packed_37 : decode cX4_packed 37 = .ok (.invokevirtual 141, 3) := sorry
theorem dX4_packed_40 : decode cX4_packed 40 = .ok (.lconst 0, 1) := sorry
theorem dX4_packed_41 : decode cX4_packed 41 = .ok (.lstore_n 2, 1) := sorry
theorem dX4_packed_42 : decode cX4_packed 42 = .ok (.aload_n 0, 1) := sorry
theorem dX4_packed_43 : decode cX4_packed 43 = .ok (.getfield 101, 3) := sorry
theorem dX4_packed_46 : decode cX4_packed 46 = .ok (.istore 4, 2) := sorry
theorem dX4_packed_48 : decode cX4_packed 48 = .ok (.iload 4, 2) := sorry
theorem dX4_packed_50 : decode cX4_packed 50 = .ok (.iload_n 1, 1) := sorry
theorem dX4_packed_51 : decode cX4_packed 51 = .ok (.if_icmp .ge 34, 3) := sorry
theorem dX4_packed_54 : decode cX4_packed 54 = .ok (.aload_n 0, 1) := sorry
theorem dX4_packed_55 : decode cX4_packed 55 = .ok (.invokevirtual 122, 3) := sorry
theorem dX4_packed_58 : decode cX4_packed 58 = .ok (.ifCond .ne 27, 3) := sorry
theorem dX4_packed_61 : decode cX4_packed 61 = .ok (.lload_n 2, 1) := sorry
theorem dX4_packed_62 : decode cX4_packed 62 = .ok (.ldc2_w 145, 3) := sorry
theorem dX4_packed_65 : decode cX4_packed 65 = .ok (.lmul, 1) := sorry
theorem dX4_packed_66 : decode cX4_packed 66 = .ok (.aload_n 0, 1) := sorry
theorem dX4_packed_67 : decode cX4_packed 67 = .ok (.iload 4, 2) := sorry
theorem dX4_packed_69 : decode cX4_packed 69 = .ok (.invokevirtual 104, 3) := sorry
theorem dX4_packed_72 : decode cX4_packed 72 = .ok (.i2l, 1) := sorry
theorem dX4_packed_73 : decode cX4_packed 73 = .ok (.ladd, 1) := sorry
theorem dX4_packed_74 : decode cX4_packed 74 = .ok (.ldc2_w 147, 3) := sorry
theorem dX4_packed_77 : decode cX4_packed 77 = .ok (.lsub, 1) := sorry
theorem dX4_packed_78 : decode cX4_packed 78 = .ok (.lstore_n 2, 1) := sorry
theorem dX4_packed_79 : decode cX4_packed 79 = .ok (.iinc 4 1, 3) := sorry
theorem dX4_packed_82 : decode cX4_packed 82 = .ok (.goto (-34), 3) := sorry
theorem dX4_packed_85 : decode cX4_packed 85 = .ok (.lload_n 2, 1) := sorry
theorem dX4_packed_86 : decode cX4_packed 86 = .ok (.lreturn, 1) := sorry
abbrev cX4_word : ByteArray := prog_16_method_15_code
def yX4_word : MethodName := ⟨RX4, "word", "(Ljava/lang/String;)V"⟩
def dkwX4_word_0 : List UInt8 := [42, 43, 182, 0, 138, 154, 0, 12, 42, 4, 42, 180, 0, 101, 182, 0, 141, 177]
abbrev dktX4_word_0 : List UInt8 := dkwX4_word_0 ++ []
theorem dksX4_word_0 : cX4_word.data.toList.drop 0 = dktX4_word_0 := sorry
theorem dX4_word_0 : decode cX4_word 0 = .ok (.aload_n 0, 1) := sorry
theorem dX4_word_1 : decode cX4_word 1 = .ok (.aload_n 1, 1) := sorry
theorem dX4_word_2 : decode cX4_word 2 = .ok (.invokevirtual 138, 3) := sorry
theorem dX4_word_5 : decode cX4_word 5 = .ok (.ifCond .ne 12, 3) := sorry
theorem dX4_word_8 : decode cX4_word 8 = .ok (.aload_n 0, 1) := sorry
theorem dX4_word_9 : decode cX4_word 9 = .ok (.iconst 1, 1) := sorry
theorem dX4_word_10 : decode cX4_word 10 = .ok (.aload_n 0, 1) := sorry
theorem dX4_word_11 : decode cX4_word 11 = .ok (.getfield 101, 3) := sorry
theorem dX4_word_14 : decode cX4_word 14 = .ok (.invokevirtual 141, 3) := sorry
theorem dX4_word_17 : decode cX4_word 17 = .ok (.return_, 1) := sorry
abbrev cX4_errorOffset : ByteArray := prog_16_method_22_code
def yX4_errorOffset : MethodName := ⟨RX4, "errorOffset", "()I"⟩
def dkwX4_errorOffset_0 : List UInt8 := [42, 3, 181, 0, 92, 42, 180, 0, 62, 172]
abbrev dktX4_errorOffset_0 : List UInt8 := dkwX4_errorOffset_0 ++ []
theorem dksX4_errorOffset_0 : cX4_errorOffset.data.toList.drop 0 = dktX4_errorOffset_0 := sorry
theorem dX4_errorOffset_0 : decode cX4_errorOffset 0 = .ok (.aload_n 0, 1) := sorry
theorem dX4_errorOffset_1 : decode cX4_errorOffset 1 = .ok (.iconst 0, 1) := sorry
theorem dX4_errorOffset_2 : decode cX4_errorOffset 2 = .ok (.putfield 92, 3) := sorry
theorem dX4_errorOffset_5 : decode cX4_errorOffset 5 = .ok (.aload_n 0, 1) := sorry
theorem dX4_errorOffset_6 : decode cX4_errorOffset 6 = .ok (.getfield 62, 3) := sorry
theorem dX4_errorOffset_9 : decode cX4_errorOffset 9 = .ok (.ireturn, 1) := sorry
abbrev cX4_errorKind : ByteArray := prog_16_method_23_code
def yX4_errorKind : MethodName := ⟨RX4, "errorKind", "()I"⟩
def dkwX4_errorKind_0 : List UInt8 := [42, 3, 181, 0, 92, 42, 180, 0, 108, 172]
abbrev dktX4_errorKind_0 : List UInt8 := dkwX4_errorKind_0 ++ []
theorem dksX4_errorKind_0 : cX4_errorKind.data.toList.drop 0 = dktX4_errorKind_0 := sorry
theorem dX4_errorKind_0 : decode cX4_errorKind 0 = .ok (.aload_n 0, 1) := sorry
theorem dX4_errorKind_1 : decode cX4_errorKind 1 = .ok (.iconst 0, 1) := sorry
theorem dX4_errorKind_2 : decode cX4_errorKind 2 = .ok (.putfield 92, 3) := sorry
theorem dX4_errorKind_5 : decode cX4_errorKind 5 = .ok (.aload_n 0, 1) := sorry
theorem dX4_errorKind_6 : decode cX4_errorKind 6 = .ok (.getfield 108, 3) := sorry
theorem dX4_errorKind_9 : decode cX4_errorKind 9 = .ok (.ireturn, 1) := sorry
abbrev cX4_undo : ByteArray := prog_16_method_25_code
def yX4_undo : MethodName := ⟨RX4, "undo", "()I"⟩
def dkwX4_undo_2 : List UInt8 := [180, 0, 195, 104, 27, 96, 46, 79, 132, 1, 1, 167, 255, 225, 42, 182, 0, 198, 42, 180, 0, 195, 172]
abbrev dktX4_undo_2 : List UInt8 := dkwX4_undo_2 ++ []
def dkwX4_undo_1 : List UInt8 := [3, 60, 27, 17, 3, 173, 162, 0, 30, 42, 180, 0, 7, 27, 42, 180, 0, 13, 17, 3, 173, 42]
abbrev dktX4_undo_1 : List UInt8 := dkwX4_undo_1 ++ dktX4_undo_2
def dkwX4_undo_0 : List UInt8 := [42, 3, 181, 0, 92, 42, 180, 0, 195, 154, 0, 5, 2, 172, 42, 89, 180, 0, 195, 4, 100, 181, 0, 195]
abbrev dktX4_undo_0 : List UInt8 := dkwX4_undo_0 ++ dktX4_undo_1
theorem dksX4_undo_0 : cX4_undo.data.toList.drop 0 = dktX4_undo_0 := sorry
theorem dksX4_undo_1 : cX4_undo.data.toList.drop 24 = dktX4_undo_1 := sorry
theorem dksX4_undo_2 : cX4_undo.data.toList.drop 46 = dktX4_undo_2 := sorry
theorem dX4_undo_0 : decode cX4_undo 0 = .ok (.aload_n 0, 1) := sorry
theorem dX4_undo_1 : decode cX4_undo 1 = .ok (.iconst 0, 1) := sorry
theorem dX4_undo_2 : decode cX4_undo 2 = .ok (.putfield 92, 3) := sorry
theorem dX4_undo_5 : decode cX4_undo 5 = .ok (.aload_n 0, 1) := sorry
theorem dX4_undo_6 : decode cX4_undo 6 = .ok (.getfield 195, 3) := sorry
theorem dX4_undo_9 : decode cX4_undo 9 = .ok (.ifCond .ne 5, 3) := sorry
theorem dX4_undo_12 : decode cX4_undo 12 = .ok (.iconst (-1), 1) := sorry
theorem dX4_undo_13 : decode cX4_undo 13 = .ok (.ireturn, 1) := sorry
theorem dX4_undo_14 : decode cX4_undo 14 = .ok (.aload_n 0, 1) := sorry
theorem dX4_undo_15 : decode cX4_undo 15 = .ok (.dup, 1) := sorry
theorem dX4_undo_16 : decode cX4_undo 16 = .ok (.getfield 195, 3) := sorry
theorem dX4_undo_19 : decode cX4_undo 19 = .ok (.iconst 1, 1) := sorry
theorem dX4_undo_20 : decode cX4_undo 20 = .ok (.isub, 1) := sorry
theorem dX4_undo_21 : decode cX4_undo 21 = .ok (.putfield 195, 3) := sorry
theorem dX4_undo_24 : decode cX4_undo 24 = .ok (.iconst 0, 1) := sorry
theorem dX4_undo_25 : decode cX4_undo 25 = .ok (.istore_n 1, 1) := sorry
theorem dX4_undo_26 : decode cX4_undo 26 = .ok (.iload_n 1, 1) := sorry
theorem dX4_undo_27 : decode cX4_undo 27 = .ok (.sipush 941, 3) := sorry
theorem dX4_undo_30 : decode cX4_undo 30 = .ok (.if_icmp .ge 30, 3) := sorry
theorem dX4_undo_33 : decode cX4_undo 33 = .ok (.aload_n 0, 1) := sorry
theorem dX4_undo_34 : decode cX4_undo 34 = .ok (.getfield 7, 3) := sorry
theorem dX4_undo_37 : decode cX4_undo 37 = .ok (.iload_n 1, 1) := sorry
theorem dX4_undo_38 : decode cX4_undo 38 = .ok (.aload_n 0, 1) := sorry
theorem dX4_undo_39 : decode cX4_undo 39 = .ok (.getfield 13, 3) := sorry
theorem dX4_undo_42 : decode cX4_undo 42 = .ok (.sipush 941, 3) := sorry
theorem dX4_undo_45 : decode cX4_undo 45 = .ok (.aload_n 0, 1) := sorry
theorem dX4_undo_46 : decode cX4_undo 46 = .ok (.getfield 195, 3) := sorry
theorem dX4_undo_49 : decode cX4_undo 49 = .ok (.imul, 1) := sorry
theorem dX4_undo_50 : decode cX4_undo 50 = .ok (.iload_n 1, 1) := sorry
theorem dX4_undo_51 : decode cX4_undo 51 = .ok (.iadd, 1) := sorry
theorem dX4_undo_52 : decode cX4_undo 52 = .ok (.iaload, 1) := sorry
theorem dX4_undo_53 : decode cX4_undo 53 = .ok (.iastore, 1) := sorry
theorem dX4_undo_54 : decode cX4_undo 54 = .ok (.iinc 1 1, 3) := sorry
theorem dX4_undo_57 : decode cX4_undo 57 = .ok (.goto (-31), 3) := sorry
theorem dX4_undo_60 : decode cX4_undo 60 = .ok (.aload_n 0, 1) := sorry
theorem dX4_undo_61 : decode cX4_undo 61 = .ok (.invokevirtual 198, 3) := sorry
theorem dX4_undo_64 : decode cX4_undo 64 = .ok (.aload_n 0, 1) := sorry
theorem dX4_undo_65 : decode cX4_undo 65 = .ok (.getfield 195, 3) := sorry
theorem dX4_undo_68 : decode cX4_undo 68 = .ok (.ireturn, 1) := sorry
abbrev cX4_laysWeb : ByteArray := prog_16_method_28_code
def yX4_laysWeb : MethodName := ⟨RX4, "laysWeb", "()V"⟩
def dkwX4_laysWeb_2 : List UInt8 := [132, 1, 1, 167, 255, 216, 177]
abbrev dktX4_laysWeb_2 : List UInt8 := dkwX4_laysWeb_2 ++ []
def dkwX4_laysWeb_1 : List UInt8 := [4, 96, 42, 180, 0, 55, 27, 46, 42, 27, 182, 0, 201, 96, 42, 180, 0, 7, 8, 46, 96, 79]
abbrev dktX4_laysWeb_1 : List UInt8 := dkwX4_laysWeb_1 ++ dktX4_laysWeb_2
def dkwX4_laysWeb_0 : List UInt8 := [42, 180, 0, 55, 3, 3, 79, 3, 60, 27, 42, 180, 0, 7, 6, 46, 162, 0, 36, 42, 180, 0, 55, 27]
abbrev dktX4_laysWeb_0 : List UInt8 := dkwX4_laysWeb_0 ++ dktX4_laysWeb_1
theorem dksX4_laysWeb_0 : cX4_laysWeb.data.toList.drop 0 = dktX4_laysWeb_0 := sorry
theorem dksX4_laysWeb_1 : cX4_laysWeb.data.toList.drop 24 = dktX4_laysWeb_1 := sorry
theorem dksX4_laysWeb_2 : cX4_laysWeb.data.toList.drop 46 = dktX4_laysWeb_2 := sorry
theorem dX4_laysWeb_0 : decode cX4_laysWeb 0 = .ok (.aload_n 0, 1) := sorry
theorem dX4_laysWeb_1 : decode cX4_laysWeb 1 = .ok (.getfield 55, 3) := sorry
theorem dX4_laysWeb_4 : decode cX4_laysWeb 4 = .ok (.iconst 0, 1) := sorry
theorem dX4_laysWeb_5 : decode cX4_laysWeb 5 = .ok (.iconst 0, 1) := sorry
theorem dX4_laysWeb_6 : decode cX4_laysWeb 6 = .ok (.iastore, 1) := sorry
theorem dX4_laysWeb_7 : decode cX4_laysWeb 7 = .ok (.iconst 0, 1) := sorry
theorem dX4_laysWeb_8 : decode cX4_laysWeb 8 = .ok (.istore_n 1, 1) := sorry
theorem dX4_laysWeb_9 : decode cX4_laysWeb 9 = .ok (.iload_n 1, 1) := sorry
theorem dX4_laysWeb_10 : decode cX4_laysWeb 10 = .ok (.aload_n 0, 1) := sorry
theorem dX4_laysWeb_11 : decode cX4_laysWeb 11 = .ok (.getfield 7, 3) := sorry
theorem dX4_laysWeb_14 : decode cX4_laysWeb 14 = .ok (.iconst 3, 1) := sorry
theorem dX4_laysWeb_15 : decode cX4_laysWeb 15 = .ok (.iaload, 1) := sorry
theorem dX4_laysWeb_16 : decode cX4_laysWeb 16 = .ok (.if_icmp .ge 36, 3) := sorry
theorem dX4_laysWeb_19 : decode cX4_laysWeb 19 = .ok (.aload_n 0, 1) := sorry
theorem dX4_laysWeb_20 : decode cX4_laysWeb 20 = .ok (.getfield 55, 3) := sorry
theorem dX4_laysWeb_23 : decode cX4_laysWeb 23 = .ok (.iload_n 1, 1) := sorry
theorem dX4_laysWeb_24 : decode cX4_laysWeb 24 = .ok (.iconst 1, 1) := sorry
theorem dX4_laysWeb_25 : decode cX4_laysWeb 25 = .ok (.iadd, 1) := sorry
theorem dX4_laysWeb_26 : decode cX4_laysWeb 26 = .ok (.aload_n 0, 1) := sorry
theorem dX4_laysWeb_27 : decode cX4_laysWeb 27 = .ok (.getfield 55, 3) := sorry
theorem dX4_laysWeb_30 : decode cX4_laysWeb 30 = .ok (.iload_n 1, 1) := sorry
theorem dX4_laysWeb_31 : decode cX4_laysWeb 31 = .ok (.iaload, 1) := sorry
theorem dX4_laysWeb_32 : decode cX4_laysWeb 32 = .ok (.aload_n 0, 1) := sorry
theorem dX4_laysWeb_33 : decode cX4_laysWeb 33 = .ok (.iload_n 1, 1) := sorry
theorem dX4_laysWeb_34 : decode cX4_laysWeb 34 = .ok (.invokevirtual 201, 3) := sorry
theorem dX4_laysWeb_37 : decode cX4_laysWeb 37 = .ok (.iadd, 1) := sorry
theorem dX4_laysWeb_38 : decode cX4_laysWeb 38 = .ok (.aload_n 0, 1) := sorry
theorem dX4_laysWeb_39 : decode cX4_laysWeb 39 = .ok (.getfield 7, 3) := sorry
theorem dX4_laysWeb_42 : decode cX4_laysWeb 42 = .ok (.iconst 5, 1) := sorry
theorem dX4_laysWeb_43 : decode cX4_laysWeb 43 = .ok (.iaload, 1) := sorry
theorem dX4_laysWeb_44 : decode cX4_laysWeb 44 = .ok (.iadd, 1) := sorry
theorem dX4_laysWeb_45 : decode cX4_laysWeb 45 = .ok (.iastore, 1) := sorry
theorem dX4_laysWeb_46 : decode cX4_laysWeb 46 = .ok (.iinc 1 1, 3) := sorry
theorem dX4_laysWeb_49 : decode cX4_laysWeb 49 = .ok (.goto (-40), 3) := sorry
theorem dX4_laysWeb_52 : decode cX4_laysWeb 52 = .ok (.return_, 1) := sorry
abbrev cX4_labelLong : ByteArray := prog_16_method_27_code
def yX4_labelLong : MethodName := ⟨RX4, "labelLong", "(I)I"⟩
def dkwX4_labelLong_0 : List UInt8 := [42, 180, 0, 7, 7, 46, 42, 180, 0, 7, 16, 26, 27, 96, 46, 96, 172]
abbrev dktX4_labelLong_0 : List UInt8 := dkwX4_labelLong_0 ++ []
theorem dksX4_labelLong_0 : cX4_labelLong.data.toList.drop 0 = dktX4_labelLong_0 := sorry
theorem dX4_labelLong_0 : decode cX4_labelLong 0 = .ok (.aload_n 0, 1) := sorry
theorem dX4_labelLong_1 : decode cX4_labelLong 1 = .ok (.getfield 7, 3) := sorry
theorem dX4_labelLong_4 : decode cX4_labelLong 4 = .ok (.iconst 4, 1) := sorry
theorem dX4_labelLong_5 : decode cX4_labelLong 5 = .ok (.iaload, 1) := sorry
theorem dX4_labelLong_6 : decode cX4_labelLong 6 = .ok (.aload_n 0, 1) := sorry
theorem dX4_labelLong_7 : decode cX4_labelLong 7 = .ok (.getfield 7, 3) := sorry
theorem dX4_labelLong_10 : decode cX4_labelLong 10 = .ok (.bipush 26, 2) := sorry
theorem dX4_labelLong_12 : decode cX4_labelLong 12 = .ok (.iload_n 1, 1) := sorry
theorem dX4_labelLong_13 : decode cX4_labelLong 13 = .ok (.iadd, 1) := sorry
theorem dX4_labelLong_14 : decode cX4_labelLong 14 = .ok (.iaload, 1) := sorry
theorem dX4_labelLong_15 : decode cX4_labelLong 15 = .ok (.iadd, 1) := sorry
theorem dX4_labelLong_16 : decode cX4_labelLong 16 = .ok (.ireturn, 1) := sorry
abbrev cX4_undoDepth : ByteArray := prog_16_method_26_code
def yX4_undoDepth : MethodName := ⟨RX4, "undoDepth", "()I"⟩
def dkwX4_undoDepth_0 : List UInt8 := [42, 3, 181, 0, 92, 42, 180, 0, 195, 172]
abbrev dktX4_undoDepth_0 : List UInt8 := dkwX4_undoDepth_0 ++ []
theorem dksX4_undoDepth_0 : cX4_undoDepth.data.toList.drop 0 = dktX4_undoDepth_0 := sorry
theorem dX4_undoDepth_0 : decode cX4_undoDepth 0 = .ok (.aload_n 0, 1) := sorry
theorem dX4_undoDepth_1 : decode cX4_undoDepth 1 = .ok (.iconst 0, 1) := sorry
theorem dX4_undoDepth_2 : decode cX4_undoDepth 2 = .ok (.putfield 92, 3) := sorry
theorem dX4_undoDepth_5 : decode cX4_undoDepth 5 = .ok (.aload_n 0, 1) := sorry
theorem dX4_undoDepth_6 : decode cX4_undoDepth 6 = .ok (.getfield 195, 3) := sorry
theorem dX4_undoDepth_9 : decode cX4_undoDepth 9 = .ok (.ireturn, 1) := sorry
abbrev cX4_mountRoll : ByteArray := prog_16_method_35_code
def yX4_mountRoll : MethodName := ⟨RX4, "mountRoll", "(IIIII)I"⟩
def dkwX4_mountRoll_8 : List UInt8 := [21, 7, 96, 3, 79, 132, 7, 1, 167, 255, 235, 42, 182, 0, 198, 42, 182, 0, 204, 172]
abbrev dktX4_mountRoll_8 : List UInt8 := dkwX4_mountRoll_8 ++ []
def dkwX4_mountRoll_7 : List UInt8 := [180, 0, 7, 16, 17, 3, 79, 3, 54, 7, 21, 7, 16, 99, 162, 0, 20, 42, 180, 0, 7, 16, 26]
abbrev dktX4_mountRoll_7 : List UInt8 := dkwX4_mountRoll_7 ++ dktX4_mountRoll_8
def dkwX4_mountRoll_6 : List UInt8 := [16, 6, 21, 4, 79, 42, 180, 0, 7, 16, 7, 21, 5, 79, 42, 180, 0, 7, 16, 9, 3, 79, 42]
abbrev dktX4_mountRoll_6 : List UInt8 := dkwX4_mountRoll_6 ++ dktX4_mountRoll_7
def dkwX4_mountRoll_5 : List UInt8 := [180, 0, 7, 6, 27, 79, 42, 180, 0, 7, 7, 28, 79, 42, 180, 0, 7, 8, 29, 79, 42, 180, 0, 7]
abbrev dktX4_mountRoll_5 : List UInt8 := dkwX4_mountRoll_5 ++ dktX4_mountRoll_6
def dkwX4_mountRoll_4 : List UInt8 := [3, 4, 79, 42, 180, 0, 7, 4, 3, 79, 42, 180, 0, 7, 5, 42, 180, 0, 19, 4, 100, 79, 42]
abbrev dktX4_mountRoll_4 : List UInt8 := dkwX4_mountRoll_4 ++ dktX4_mountRoll_5
def dkwX4_mountRoll_3 : List UInt8 := [167, 0, 4, 4, 181, 0, 92, 42, 180, 0, 92, 158, 0, 5, 3, 172, 42, 182, 0, 213, 42, 180, 0, 7]
abbrev dktX4_mountRoll_3 : List UInt8 := dkwX4_mountRoll_3 ++ dktX4_mountRoll_4
def dkwX4_mountRoll_2 : List UInt8 := [17, 0, 255, 184, 0, 115, 153, 0, 7, 4, 167, 0, 4, 3, 54, 6, 42, 21, 6, 153, 0, 7, 3]
abbrev dktX4_mountRoll_2 : List UInt8 := dkwX4_mountRoll_2 ++ dktX4_mountRoll_3
def dkwX4_mountRoll_1 : List UInt8 := [16, 40, 184, 0, 115, 153, 0, 31, 21, 4, 3, 17, 0, 255, 184, 0, 115, 153, 0, 19, 21, 5, 3]
abbrev dktX4_mountRoll_1 : List UInt8 := dkwX4_mountRoll_1 ++ dktX4_mountRoll_2
def dkwX4_mountRoll_0 : List UInt8 := [27, 4, 16, 99, 184, 0, 115, 153, 0, 53, 28, 16, 20, 17, 1, 44, 184, 0, 115, 153, 0, 41, 29, 5]
abbrev dktX4_mountRoll_0 : List UInt8 := dkwX4_mountRoll_0 ++ dktX4_mountRoll_1
theorem dksX4_mountRoll_0 : cX4_mountRoll.data.toList.drop 0 = dktX4_mountRoll_0 := sorry
theorem dksX4_mountRoll_1 : cX4_mountRoll.data.toList.drop 24 = dktX4_mountRoll_1 := sorry
theorem dksX4_mountRoll_2 : cX4_mountRoll.data.toList.drop 47 = dktX4_mountRoll_2 := sorry
theorem dksX4_mountRoll_3 : cX4_mountRoll.data.toList.drop 70 = dktX4_mountRoll_3 := sorry
theorem dksX4_mountRoll_4 : cX4_mountRoll.data.toList.drop 94 = dktX4_mountRoll_4 := sorry
theorem dksX4_mountRoll_5 : cX4_mountRoll.data.toList.drop 117 = dktX4_mountRoll_5 := sorry
theorem dksX4_mountRoll_6 : cX4_mountRoll.data.toList.drop 141 = dktX4_mountRoll_6 := sorry
theorem dksX4_mountRoll_7 : cX4_mountRoll.data.toList.drop 164 = dktX4_mountRoll_7 := sorry
theorem dksX4_mountRoll_8 : cX4_mountRoll.data.toList.drop 187 = dktX4_mountRoll_8 := sorry
theorem dX4_mountRoll_0 : decode cX4_mountRoll 0 = .ok (.iload_n 1, 1) := sorry
theorem dX4_mountRoll_1 : decode cX4_mountRoll 1 = .ok (.iconst 1, 1) := sorry
theorem dX4_mountRoll_2 : decode cX4_mountRoll 2 = .ok (.bipush 99, 2) := sorry
theorem dX4_mountRoll_4 : decode cX4_mountRoll 4 = .ok (.invokestatic 115, 3) := sorry
theorem dX4_mountRoll_7 : decode cX4_mountRoll 7 = .ok (.ifCond .eq 53, 3) := sorry
theorem dX4_mountRoll_10 : decode cX4_mountRoll 10 = .ok (.iload_n 2, 1) := sorry
theorem dX4_mountRoll_11 : decode cX4_mountRoll 11 = .ok (.bipush 20, 2) := sorry
theorem dX4_mountRoll_13 : decode cX4_mountRoll 13 = .ok (.sipush 300, 3) := sorry
theorem dX4_mountRoll_16 : decode cX4_mountRoll 16 = .ok (.invokestatic 115, 3) := sorry
theorem dX4_mountRoll_19 : decode cX4_mountRoll 19 = .ok (.ifCond .eq 41, 3) := sorry
theorem dX4_mountRoll_22 : decode cX4_mountRoll 22 = .ok (.iload_n 3, 1) := sorry
theorem dX4_mountRoll_23 : decode cX4_mountRoll 23 = .ok (.iconst 2, 1) := sorry
theorem dX4_mountRoll_24 : decode cX4_mountRoll 24 = .ok (.bipush 40, 2) := sorry
theorem dX4_mountRoll_26 : decode cX4_mountRoll 26 = .ok (.invokestatic 115, 3) := sorry
theorem dX4_mountRoll_29 : decode cX4_mountRoll 29 = .ok (.ifCond .eq 31, 3) := sorry
theorem dX4_mountRoll_32 : decode cX4_mountRoll 32 = .ok (.iload 4, 2) := sorry
theorem dX4_mountRoll_34 : decode cX4_mountRoll 34 = .ok (.iconst 0, 1) := sorry
theorem dX4_mountRoll_35 : decode cX4_mountRoll 35 = .ok (.sipush 255, 3) := sorry
theorem dX4_mountRoll_38 : decode cX4_mountRoll 38 = .ok (.invokestatic 115, 3) := sorry
theorem dX4_mountRoll_41 : decode cX4_mountRoll 41 = .ok (.ifCond .eq 19, 3) := sorry
theorem dX4_mountRoll_44 : decode cX4_mountRoll 44 = .ok (.iload 5, 2) := sorry
theorem dX4_mountRoll_46 : decode cX4_mountRoll 46 = .ok (.iconst 0, 1) := sorry
theorem dX4_mountRoll_47 : decode cX4_mountRoll 47 = .ok (.sipush 255, 3) := sorry
theorem dX4_mountRoll_50 : decode cX4_mountRoll 50 = .ok (.invokestatic 115, 3) := sorry
theorem dX4_mountRoll_53 : decode cX4_mountRoll 53 = .ok (.ifCond .eq 7, 3) := sorry
theorem dX4_mountRoll_56 : decode cX4_mountRoll 56 = .ok (.iconst 1, 1) := sorry
theorem dX4_mountRoll_57 : decode cX4_mountRoll 57 = .ok (.goto 4, 3) := sorry
theorem dX4_mountRoll_60 : decode cX4_mountRoll 60 = .ok (.iconst 0, 1) := sorry
theorem dX4_mountRoll_61 : decode cX4_mountRoll 61 = .ok (.istore 6, 2) := sorry
theorem dX4_mountRoll_63 : decode cX4_mountRoll 63 = .ok (.aload_n 0, 1) := sorry
theorem dX4_mountRoll_64 : decode cX4_mountRoll 64 = .ok (.iload 6, 2) := sorry
theorem dX4_mountRoll_66 : decode cX4_mountRoll 66 = .ok (.ifCond .eq 7, 3) := sorry
theorem dX4_mountRoll_69 : decode cX4_mountRoll 69 = .ok (.iconst 0, 1) := sorry
theorem dX4_mountRoll_70 : decode cX4_mountRoll 70 = .ok (.goto 4, 3) := sorry
theorem dX4_mountRoll_73 : decode cX4_mountRoll 73 = .ok (.iconst 1, 1) := sorry
theorem dX4_mountRoll_74 : decode cX4_mountRoll 74 = .ok (.putfield 92, 3) := sorry
theorem dX4_mountRoll_77 : decode cX4_mountRoll 77 = .ok (.aload_n 0, 1) := sorry
theorem dX4_mountRoll_78 : decode cX4_mountRoll 78 = .ok (.getfield 92, 3) := sorry
theorem dX4_mountRoll_81 : decode cX4_mountRoll 81 = .ok (.ifCond .le 5, 3) := sorry
theorem dX4_mountRoll_84 : decode cX4_mountRoll 84 = .ok (.iconst 0, 1) := sorry
theorem dX4_mountRoll_85 : decode cX4_mountRoll 85 = .ok (.ireturn, 1) := sorry
theorem dX4_mountRoll_86 : decode cX4_mountRoll 86 = .ok (.aload_n 0, 1) := sorry
theorem dX4_mountRoll_87 : decode cX4_mountRoll 87 = .ok (.invokevirtual 213, 3) := sorry
theorem dX4_mountRoll_90 : decode cX4_mountRoll 90 = .ok (.aload_n 0, 1) := sorry
theorem dX4_mountRoll_91 : decode cX4_mountRoll 91 = .ok (.getfield 7, 3) := sorry
theorem dX4_mountRoll_94 : decode cX4_mountRoll 94 = .ok (.iconst 0, 1) := sorry
theorem dX4_mountRoll_95 : decode cX4_mountRoll 95 = .ok (.iconst 1, 1) := sorry
theorem dX4_mountRoll_96 : decode cX4_mountRoll 96 = .ok (.iastore, 1) := sorry
theorem dX4_mountRoll_97 : decode cX4_mountRoll 97 = .ok (.aload_n 0, 1) := sorry
theorem dX4_mountRoll_98 : decode cX4_mountRoll 98 = .ok (.getfield 7, 3) := sorry
theorem dX4_mountRoll_101 : decode cX4_mountRoll 101 = .ok (.iconst 1, 1) := sorry
theorem dX4_mountRoll_102 : decode cX4_mountRoll 102 = .ok (.iconst 0, 1) := sorry
theorem dX4_mountRoll_103 : decode cX4_mountRoll 103 = .ok (.iastore, 1) := sorry
theorem dX4_mountRoll_104 : decode cX4_mountRoll 104 = .ok (.aload_n 0, 1) := sorry
theorem dX4_mountRoll_105 : decode cX4_mountRoll 105 = .ok (.getfield 7, 3) := sorry
theorem dX4_mountRoll_108 : decode cX4_mountRoll 108 = .ok (.iconst 2, 1) := sorry
theorem dX4_mountRoll_109 : decode cX4_mountRoll 109 = .ok (.aload_n 0, 1) := sorry
theorem dX4_mountRoll_110 : decode cX4_mountRoll 110 = .ok (.getfield 19, 3) := sorry
theorem dX4_mountRoll_113 : decode cX4_mountRoll 113 = .ok (.iconst 1, 1) := sorry
theorem dX4_mountRoll_114 : decode cX4_mountRoll 114 = .ok (.isub, 1) := sorry
theorem dX4_mountRoll_115 : decode cX4_mountRoll 115 = .ok (.iastore, 1) := sorry
theorem dX4_mountRoll_116 : decode cX4_mountRoll 116 = .ok (.aload_n 0, 1) := sorry
theorem dX4_mountRoll_117 : decode cX4_mountRoll 117 = .ok (.getfield 7, 3) := sorry
theorem dX4_mountRoll_120 : decode cX4_mountRoll 120 = .ok (.iconst 3, 1) := sorry
theorem dX4_mountRoll_121 : decode cX4_mountRoll 121 = .ok (.iload_n 1, 1) := sorry
theorem dX4_mountRoll_122 : decode cX4_mountRoll 122 = .ok (.iastore, 1) := sorry
theorem dX4_mountRoll_123 : decode cX4_mountRoll 123 = .ok (.aload_n 0, 1) := sorry
theorem dX4_mountRoll_124 : decode cX4_mountRoll 124 = .ok (.getfield 7, 3) := sorry
theorem dX4_mountRoll_127 : decode cX4_mountRoll 127 = .ok (.iconst 4, 1) := sorry
theorem dX4_mountRoll_128 : decode cX4_mountRoll 128 = .ok (.iload_n 2, 1) := sorry
theorem dX4_mountRoll_129 : decode cX4_mountRoll 129 = .ok (.iastore, 1) := sorry
theorem dX4_mountRoll_130 : decode cX4_mountRoll 130 = .ok (.aload_n 0, 1) := sorry
theorem dX4_mountRoll_131 : decode cX4_mountRoll 131 = .ok (.getfield 7, 3) := sorry
theorem dX4_mountRoll_134 : decode cX4_mountRoll 134 = .ok (.iconst 5, 1) := sorry
theorem dX4_mountRoll_135 : decode cX4_mountRoll 135 = .ok (.iload_n 3, 1) := sorry
theorem dX4_mountRoll_136 : decode cX4_mountRoll 136 = .ok (.iastore, 1) := sorry
theorem dX4_mountRoll_137 : decode cX4_mountRoll 137 = .ok (.aload_n 0, 1) := sorry
theorem dX4_mountRoll_138 : decode cX4_mountRoll 138 = .ok (.getfield 7, 3) := sorry
theorem dX4_mountRoll_141 : decode cX4_mountRoll 141 = .ok (.bipush 6, 2) := sorry
theorem dX4_mountRoll_143 : decode cX4_mountRoll 143 = .ok (.iload 4, 2) := sorry
theorem dX4_mountRoll_145 : decode cX4_mountRoll 145 = .ok (.iastore, 1) := sorry
theorem dX4_mountRoll_146 : decode cX4_mountRoll 146 = .ok (.aload_n 0, 1) := sorry
theorem dX4_mountRoll_147 : decode cX4_mountRoll 147 = .ok (.getfield 7, 3) := sorry
theorem dX4_mountRoll_150 : decode cX4_mountRoll 150 = .ok (.bipush 7, 2) := sorry
theorem dX4_mountRoll_152 : decode cX4_mountRoll 152 = .ok (.iload 5, 2) := sorry
theorem dX4_mountRoll_154 : decode cX4_mountRoll 154 = .ok (.iastore, 1) := sorry
theorem dX4_mountRoll_155 : decode cX4_mountRoll 155 = .ok (.aload_n 0, 1) := sorry
theorem dX4_mountRoll_156 : decode cX4_mountRoll 156 = .ok (.getfield 7, 3) := sorry
theorem dX4_mountRoll_159 : decode cX4_mountRoll 159 = .ok (.bipush 9, 2) := sorry
theorem dX4_mountRoll_161 : decode cX4_mountRoll 161 = .ok (.iconst 0, 1) := sorry
theorem dX4_mountRoll_162 : decode cX4_mountRoll 162 = .ok (.iastore, 1) := sorry
theorem dX4_mountRoll_163 : decode cX4_mountRoll 163 = .ok (.aload_n 0, 1) := sorry
theorem dX4_mountRoll_164 : decode cX4_mountRoll 164 = .ok (.getfield 7, 3) := sorry
theorem dX4_mountRoll_167 : decode cX4_mountRoll 167 = .ok (.bipush 17, 2) := sorry
theorem dX4_mountRoll_169 : decode cX4_mountRoll 169 = .ok (.iconst 0, 1) := sorry
theorem dX4_mountRoll_170 : decode cX4_mountRoll 170 = .ok (.iastore, 1) := sorry
theorem dX4_mountRoll_171 : decode cX4_mountRoll 171 = .ok (.iconst 0, 1) := sorry
theorem dX4_mountRoll_172 : decode cX4_mountRoll 172 = .ok (.istore 7, 2) := sorry
theorem dX4_mountRoll_174 : decode cX4_mountRoll 174 = .ok (.iload 7, 2) := sorry
theorem dX4_mountRoll_176 : decode cX4_mountRoll 176 = .ok (.bipush 99, 2) := sorry
theorem dX4_mountRoll_178 : decode cX4_mountRoll 178 = .ok (.if_icmp .ge 20, 3) := sorry
theorem dX4_mountRoll_181 : decode cX4_mountRoll 181 = .ok (.aload_n 0, 1) := sorry
theorem dX4_mountRoll_182 : decode cX4_mountRoll 182 = .ok (.getfield 7, 3) := sorry
theorem dX4_mountRoll_185 : decode cX4_mountRoll 185 = .ok (.bipush 26, 2) := sorry
theorem dX4_mountRoll_187 : decode cX4_mountRoll 187 = .ok (.iload 7, 2) := sorry
theorem dX4_mountRoll_189 : decode cX4_mountRoll 189 = .ok (.iadd, 1) := sorry
theorem dX4_mountRoll_190 : decode cX4_mountRoll 190 = .ok (.iconst 0, 1) := sorry
theorem dX4_mountRoll_191 : decode cX4_mountRoll 191 = .ok (.iastore, 1) := sorry
theorem dX4_mountRoll_192 : decode cX4_mountRoll 192 = .ok (.iinc 7 1, 3) := sorry
theorem dX4_mountRoll_195 : decode cX4_mountRoll 195 = .ok (.goto (-21), 3) := sorry
theorem dX4_mountRoll_198 : decode cX4_mountRoll 198 = .ok (.aload_n 0, 1) := sorry
theorem dX4_mountRoll_199 : decode cX4_mountRoll 199 = .ok (.invokevirtual 198, 3) := sorry
theorem dX4_mountRoll_202 : decode cX4_mountRoll 202 = .ok (.aload_n 0, 1) := sorry
theorem dX4_mountRoll_203 : decode cX4_mountRoll 203 = .ok (.invokevirtual 204, 3) := sorry
theorem dX4_mountRoll_206 : decode cX4_mountRoll 206 = .ok (.ireturn, 1) := sorry
abbrev cX4_record : ByteArray := prog_16_method_24_code
def yX4_record : MethodName := ⟨RX4, "record", "()V"⟩
def dkwX4_record_4 : List UInt8 := [181, 0, 195, 177]
abbrev dktX4_record_4 : List UInt8 := dkwX4_record_4 ++ []
def dkwX4_record_3 : List UInt8 := [104, 27, 96, 42, 180, 0, 7, 27, 46, 79, 132, 1, 1, 167, 255, 225, 42, 89, 180, 0, 195, 4, 96]
abbrev dktX4_record_3 : List UInt8 := dkwX4_record_3 ++ dktX4_record_4
def dkwX4_record_2 : List UInt8 := [100, 181, 0, 195, 3, 60, 27, 17, 3, 173, 162, 0, 30, 42, 180, 0, 13, 17, 3, 173, 42, 180, 0, 195]
abbrev dktX4_record_2 : List UInt8 := dkwX4_record_2 ++ dktX4_record_3
def dkwX4_record_1 : List UInt8 := [27, 17, 3, 173, 100, 42, 180, 0, 13, 27, 46, 79, 132, 1, 1, 167, 255, 230, 42, 89, 180, 0, 195, 4]
abbrev dktX4_record_1 : List UInt8 := dkwX4_record_1 ++ dktX4_record_2
def dkwX4_record_0 : List UInt8 := [42, 180, 0, 195, 16, 8, 160, 0, 46, 17, 3, 173, 60, 27, 17, 29, 104, 162, 0, 25, 42, 180, 0, 13]
abbrev dktX4_record_0 : List UInt8 := dkwX4_record_0 ++ dktX4_record_1
theorem dksX4_record_0 : cX4_record.data.toList.drop 0 = dktX4_record_0 := sorry
theorem dksX4_record_1 : cX4_record.data.toList.drop 24 = dktX4_record_1 := sorry
theorem dksX4_record_2 : cX4_record.data.toList.drop 48 = dktX4_record_2 := sorry
theorem dksX4_record_3 : cX4_record.data.toList.drop 72 = dktX4_record_3 := sorry
theorem dksX4_record_4 : cX4_record.data.toList.drop 95 = dktX4_record_4 := sorry
theorem dX4_record_0 : decode cX4_record 0 = .ok (.aload_n 0, 1) := sorry
theorem dX4_record_1 : decode cX4_record 1 = .ok (.getfield 195, 3) := sorry
theorem dX4_record_4 : decode cX4_record 4 = .ok (.bipush 8, 2) := sorry
theorem dX4_record_6 : decode cX4_record 6 = .ok (.if_icmp .ne 46, 3) := sorry
theorem dX4_record_9 : decode cX4_record 9 = .ok (.sipush 941, 3) := sorry
theorem dX4_record_12 : decode cX4_record 12 = .ok (.istore_n 1, 1) := sorry
theorem dX4_record_13 : decode cX4_record 13 = .ok (.iload_n 1, 1) := sorry
theorem dX4_record_14 : decode cX4_record 14 = .ok (.sipush 7528, 3) := sorry
theorem dX4_record_17 : decode cX4_record 17 = .ok (.if_icmp .ge 25, 3) := sorry
theorem dX4_record_20 : decode cX4_record 20 = .ok (.aload_n 0, 1) := sorry
theorem dX4_record_21 : decode cX4_record 21 = .ok (.getfield 13, 3) := sorry
theorem dX4_record_24 : decode cX4_record 24 = .ok (.iload_n 1, 1) := sorry
theorem dX4_record_25 : decode cX4_record 25 = .ok (.sipush 941, 3) := sorry
theorem dX4_record_28 : decode cX4_record 28 = .ok (.isub, 1) := sorry
theorem dX4_record_29 : decode cX4_record 29 = .ok (.aload_n 0, 1) := sorry
theorem dX4_record_30 : decode cX4_record 30 = .ok (.getfield 13, 3) := sorry
theorem dX4_record_33 : decode cX4_record 33 = .ok (.iload_n 1, 1) := sorry
theorem dX4_record_34 : decode cX4_record 34 = .ok (.iaload, 1) := sorry
theorem dX4_record_35 : decode cX4_record 35 = .ok (.iastore, 1) := sorry
theorem dX4_record_36 : decode cX4_record 36 = .ok (.iinc 1 1, 3) := sorry
theorem dX4_record_39 : decode cX4_record 39 = .ok (.goto (-26), 3) := sorry
theorem dX4_record_42 : decode cX4_record 42 = .ok (.aload_n 0, 1) := sorry
theorem dX4_record_43 : decode cX4_record 43 = .ok (.dup, 1) := sorry
theorem dX4_record_44 : decode cX4_record 44 = .ok (.getfield 195, 3) := sorry
theorem dX4_record_47 : decode cX4_record 47 = .ok (.iconst 1, 1) := sorry
theorem dX4_record_48 : decode cX4_record 48 = .ok (.isub, 1) := sorry
theorem dX4_record_49 : decode cX4_record 49 = .ok (.putfield 195, 3) := sorry
theorem dX4_record_52 : decode cX4_record 52 = .ok (.iconst 0, 1) := sorry
theorem dX4_record_53 : decode cX4_record 53 = .ok (.istore_n 1, 1) := sorry
theorem dX4_record_54 : decode cX4_record 54 = .ok (.iload_n 1, 1) := sorry
theorem dX4_record_55 : decode cX4_record 55 = .ok (.sipush 941, 3) := sorry
theorem dX4_record_58 : decode cX4_record 58 = .ok (.if_icmp .ge 30, 3) := sorry
theorem dX4_record_61 : decode cX4_record 61 = .ok (.aload_n 0, 1) := sorry
theorem dX4_record_62 : decode cX4_record 62 = .ok (.getfield 13, 3) := sorry
theorem dX4_record_65 : decode cX4_record 65 = .ok (.sipush 941, 3) := sorry
theorem dX4_record_68 : decode cX4_record 68 = .ok (.aload_n 0, 1) := sorry
theorem dX4_record_69 : decode cX4_record 69 = .ok (.getfield 195, 3) := sorry
theorem dX4_record_72 : decode cX4_record 72 = .ok (.imul, 1) := sorry
theorem dX4_record_73 : decode cX4_record 73 = .ok (.iload_n 1, 1) := sorry
theorem dX4_record_74 : decode cX4_record 74 = .ok (.iadd, 1) := sorry
theorem dX4_record_75 : decode cX4_record 75 = .ok (.aload_n 0, 1) := sorry
theorem dX4_record_76 : decode cX4_record 76 = .ok (.getfield 7, 3) := sorry
theorem dX4_record_79 : decode cX4_record 79 = .ok (.iload_n 1, 1) := sorry
theorem dX4_record_80 : decode cX4_record 80 = .ok (.iaload, 1) := sorry
theorem dX4_record_81 : decode cX4_record 81 = .ok (.iastore, 1) := sorry
theorem dX4_record_82 : decode cX4_record 82 = .ok (.iinc 1 1, 3) := sorry
theorem dX4_record_85 : decode cX4_record 85 = .ok (.goto (-31), 3) := sorry
theorem dX4_record_88 : decode cX4_record 88 = .ok (.aload_n 0, 1) := sorry
theorem dX4_record_89 : decode cX4_record 89 = .ok (.dup, 1) := sorry
theorem dX4_record_90 : decode cX4_record 90 = .ok (.getfield 195, 3) := sorry
theorem dX4_record_93 : decode cX4_record 93 = .ok (.iconst 1, 1) := sorry
theorem dX4_record_94 : decode cX4_record 94 = .ok (.iadd, 1) := sorry
theorem dX4_record_95 : decode cX4_record 95 = .ok (.putfield 195, 3) := sorry
theorem dX4_record_98 : decode cX4_record 98 = .ok (.return_, 1) := sorry
abbrev cX4_end : ByteArray := prog_16_method_29_code
def yX4_end : MethodName := ⟨RX4, "end", "()I"⟩
def dkwX4_end_0 : List UInt8 := [42, 180, 0, 55, 42, 180, 0, 7, 6, 46, 46, 172]
abbrev dktX4_end_0 : List UInt8 := dkwX4_end_0 ++ []
theorem dksX4_end_0 : cX4_end.data.toList.drop 0 = dktX4_end_0 := sorry
theorem dX4_end_0 : decode cX4_end 0 = .ok (.aload_n 0, 1) := sorry
theorem dX4_end_1 : decode cX4_end 1 = .ok (.getfield 55, 3) := sorry
theorem dX4_end_4 : decode cX4_end 4 = .ok (.aload_n 0, 1) := sorry
theorem dX4_end_5 : decode cX4_end 5 = .ok (.getfield 7, 3) := sorry
theorem dX4_end_8 : decode cX4_end 8 = .ok (.iconst 3, 1) := sorry
theorem dX4_end_9 : decode cX4_end 9 = .ok (.iaload, 1) := sorry
theorem dX4_end_10 : decode cX4_end 10 = .ok (.iaload, 1) := sorry
theorem dX4_end_11 : decode cX4_end 11 = .ok (.ireturn, 1) := sorry
abbrev cX4_stretch : ByteArray := prog_16_method_36_code
def yX4_stretch : MethodName := ⟨RX4, "stretch", "(II)I"⟩
def dkwX4_stretch_5 : List UInt8 := [16, 26, 27, 96, 28, 79, 42, 182, 0, 198, 42, 182, 0, 204, 172]
abbrev dktX4_stretch_5 : List UInt8 := dkwX4_stretch_5 ++ []
def dkwX4_stretch_4 : List UInt8 := [167, 0, 4, 3, 181, 0, 92, 42, 180, 0, 92, 158, 0, 5, 3, 172, 42, 182, 0, 213, 42, 180, 0, 7]
abbrev dktX4_stretch_4 : List UInt8 := dkwX4_stretch_4 ++ dktX4_stretch_5
def dkwX4_stretch_3 : List UInt8 := [28, 16, 236, 16, 20, 184, 0, 115, 153, 0, 15, 42, 180, 0, 7, 7, 46, 28, 96, 4, 162, 0, 7, 6]
abbrev dktX4_stretch_3 : List UInt8 := dkwX4_stretch_3 ++ dktX4_stretch_4
def dkwX4_stretch_2 : List UInt8 := [180, 0, 7, 5, 46, 163, 0, 10, 42, 4, 181, 0, 92, 3, 172, 42, 29, 154, 0, 7, 5, 167, 0, 31]
abbrev dktX4_stretch_2 : List UInt8 := dkwX4_stretch_2 ++ dktX4_stretch_3
def dkwX4_stretch_1 : List UInt8 := [167, 0, 4, 3, 62, 42, 182, 0, 216, 153, 0, 22, 29, 153, 0, 25, 42, 180, 0, 55, 27, 46, 42]
abbrev dktX4_stretch_1 : List UInt8 := dkwX4_stretch_1 ++ dktX4_stretch_2
def dkwX4_stretch_0 : List UInt8 := [42, 182, 0, 216, 153, 0, 23, 27, 3, 42, 180, 0, 7, 6, 46, 4, 100, 184, 0, 115, 153, 0, 7, 4]
abbrev dktX4_stretch_0 : List UInt8 := dkwX4_stretch_0 ++ dktX4_stretch_1
theorem dksX4_stretch_0 : cX4_stretch.data.toList.drop 0 = dktX4_stretch_0 := sorry
theorem dksX4_stretch_1 : cX4_stretch.data.toList.drop 24 = dktX4_stretch_1 := sorry
theorem dksX4_stretch_2 : cX4_stretch.data.toList.drop 47 = dktX4_stretch_2 := sorry
theorem dksX4_stretch_3 : cX4_stretch.data.toList.drop 71 = dktX4_stretch_3 := sorry
theorem dksX4_stretch_4 : cX4_stretch.data.toList.drop 95 = dktX4_stretch_4 := sorry
theorem dksX4_stretch_5 : cX4_stretch.data.toList.drop 119 = dktX4_stretch_5 := sorry
theorem dX4_stretch_0 : decode cX4_stretch 0 = .ok (.aload_n 0, 1) := sorry
theorem dX4_stretch_1 : decode cX4_stretch 1 = .ok (.invokevirtual 216, 3) := sorry
theorem dX4_stretch_4 : decode cX4_stretch 4 = .ok (.ifCond .eq 23, 3) := sorry
theorem dX4_stretch_7 : decode cX4_stretch 7 = .ok (.iload_n 1, 1) := sorry
theorem dX4_stretch_8 : decode cX4_stretch 8 = .ok (.iconst 0, 1) := sorry
theorem dX4_stretch_9 : decode cX4_stretch 9 = .ok (.aload_n 0, 1) := sorry
theorem dX4_stretch_10 : decode cX4_stretch 10 = .ok (.getfield 7, 3) := sorry
theorem dX4_stretch_13 : decode cX4_stretch 13 = .ok (.iconst 3, 1) := sorry
theorem dX4_stretch_14 : decode cX4_stretch 14 = .ok (.iaload, 1) := sorry
theorem dX4_stretch_15 : decode cX4_stretch 15 = .ok (.iconst 1, 1) := sorry
theorem dX4_stretch_16 : decode cX4_stretch 16 = .ok (.isub, 1) := sorry
theorem dX4_stretch_17 : decode cX4_stretch 17 = .ok (.invokestatic 115, 3) := sorry
theorem dX4_stretch_20 : decode cX4_stretch 20 = .ok (.ifCond .eq 7, 3) := sorry
theorem dX4_stretch_23 : decode cX4_stretch 23 = .ok (.iconst 1, 1) := sorry
theorem dX4_stretch_24 : decode cX4_stretch 24 = .ok (.goto 4, 3) := sorry
theorem dX4_stretch_27 : decode cX4_stretch 27 = .ok (.iconst 0, 1) := sorry
theorem dX4_stretch_28 : decode cX4_stretch 28 = .ok (.istore_n 3, 1) := sorry
theorem dX4_stretch_29 : decode cX4_stretch 29 = .ok (.aload_n 0, 1) := sorry
theorem dX4_stretch_30 : decode cX4_stretch 30 = .ok (.invokevirtual 216, 3) := sorry
theorem dX4_stretch_33 : decode cX4_stretch 33 = .ok (.ifCond .eq 22, 3) := sorry
theorem dX4_stretch_36 : decode cX4_stretch 36 = .ok (.iload_n 3, 1) := sorry
theorem dX4_stretch_37 : decode cX4_stretch 37 = .ok (.ifCond .eq 25, 3) := sorry
theorem dX4_stretch_40 : decode cX4_stretch 40 = .ok (.aload_n 0, 1) := sorry
theorem dX4_stretch_41 : decode cX4_stretch 41 = .ok (.getfield 55, 3) := sorry
theorem dX4_stretch_44 : decode cX4_stretch 44 = .ok (.iload_n 1, 1) := sorry
theorem dX4_stretch_45 : decode cX4_stretch 45 = .ok (.iaload, 1) := sorry
theorem dX4_stretch_46 : decode cX4_stretch 46 = .ok (.aload_n 0, 1) := sorry
theorem dX4_stretch_47 : decode cX4_stretch 47 = .ok (.getfield 7, 3) := sorry
theorem dX4_stretch_50 : decode cX4_stretch 50 = .ok (.iconst 2, 1) := sorry
theorem dX4_stretch_51 : decode cX4_stretch 51 = .ok (.iaload, 1) := sorry
theorem dX4_stretch_52 : decode cX4_stretch 52 = .ok (.if_icmp .gt 10, 3) := sorry
theorem dX4_stretch_55 : decode cX4_stretch 55 = .ok (.aload_n 0, 1) := sorry
theorem dX4_stretch_56 : decode cX4_stretch 56 = .ok (.iconst 1, 1) := sorry
theorem dX4_stretch_57 : decode cX4_stretch 57 = .ok (.putfield 92, 3) := sorry
theorem dX4_stretch_60 : decode cX4_stretch 60 = .ok (.iconst 0, 1) := sorry
theorem dX4_stretch_61 : decode cX4_stretch 61 = .ok (.ireturn, 1) := sorry
theorem dX4_stretch_62 : decode cX4_stretch 62 = .ok (.aload_n 0, 1) := sorry
theorem dX4_stretch_63 : decode cX4_stretch 63 = .ok (.iload_n 3, 1) := sorry
theorem dX4_stretch_64 : decode cX4_stretch 64 = .ok (.ifCond .ne 7, 3) := sorry
theorem dX4_stretch_67 : decode cX4_stretch 67 = .ok (.iconst 2, 1) := sorry
theorem dX4_stretch_68 : decode cX4_stretch 68 = .ok (.goto 31, 3) := sorry
theorem dX4_stretch_71 : decode cX4_stretch 71 = .ok (.iload_n 2, 1) := sorry
theorem dX4_stretch_72 : decode cX4_stretch 72 = .ok (.bipush (-20), 2) := sorry
theorem dX4_stretch_74 : decode cX4_stretch 74 = .ok (.bipush 20, 2) := sorry
theorem dX4_stretch_76 : decode cX4_stretch 76 = .ok (.invokestatic 115, 3) := sorry
theorem dX4_stretch_79 : decode cX4_stretch 79 = .ok (.ifCond .eq 15, 3) := sorry
theorem dX4_stretch_82 : decode cX4_stretch 82 = .ok (.aload_n 0, 1) := sorry
theorem dX4_stretch_83 : decode cX4_stretch 83 = .ok (.getfield 7, 3) := sorry
theorem dX4_stretch_86 : decode cX4_stretch 86 = .ok (.iconst 4, 1) := sorry
theorem dX4_stretch_87 : decode cX4_stretch 87 = .ok (.iaload, 1) := sorry
theorem dX4_stretch_88 : decode cX4_stretch 88 = .ok (.iload_n 2, 1) := sorry
theorem dX4_stretch_89 : decode cX4_stretch 89 = .ok (.iadd, 1) := sorry
theorem dX4_stretch_90 : decode cX4_stretch 90 = .ok (.iconst 1, 1) := sorry
theorem dX4_stretch_91 : decode cX4_stretch 91 = .ok (.if_icmp .ge 7, 3) := sorry
theorem dX4_stretch_94 : decode cX4_stretch 94 = .ok (.iconst 3, 1) := sorry
theorem dX4_stretch_95 : decode cX4_stretch 95 = .ok (.goto 4, 3) := sorry
theorem dX4_stretch_98 : decode cX4_stretch 98 = .ok (.iconst 0, 1) := sorry
theorem dX4_stretch_99 : decode cX4_stretch 99 = .ok (.putfield 92, 3) := sorry
theorem dX4_stretch_102 : decode cX4_stretch 102 = .ok (.aload_n 0, 1) := sorry
theorem dX4_stretch_103 : decode cX4_stretch 103 = .ok (.getfield 92, 3) := sorry
theorem dX4_stretch_106 : decode cX4_stretch 106 = .ok (.ifCond .le 5, 3) := sorry
theorem dX4_stretch_109 : decode cX4_stretch 109 = .ok (.iconst 0, 1) := sorry
theorem dX4_stretch_110 : decode cX4_stretch 110 = .ok (.ireturn, 1) := sorry
theorem dX4_stretch_111 : decode cX4_stretch 111 = .ok (.aload_n 0, 1) := sorry
theorem dX4_stretch_112 : decode cX4_stretch 112 = .ok (.invokevirtual 213, 3) := sorry
theorem dX4_stretch_115 : decode cX4_stretch 115 = .ok (.aload_n 0, 1) := sorry
theorem dX4_stretch_116 : decode cX4_stretch 116 = .ok (.getfield 7, 3) := sorry
theorem dX4_stretch_119 : decode cX4_stretch 119 = .ok (.bipush 26, 2) := sorry
theorem dX4_stretch_121 : decode cX4_stretch 121 = .ok (.iload_n 1, 1) := sorry
theorem dX4_stretch_122 : decode cX4_stretch 122 = .ok (.iadd, 1) := sorry
theorem dX4_stretch_123 : decode cX4_stretch 123 = .ok (.iload_n 2, 1) := sorry
theorem dX4_stretch_124 : decode cX4_stretch 124 = .ok (.iastore, 1) := sorry
theorem dX4_stretch_125 : decode cX4_stretch 125 = .ok (.aload_n 0, 1) := sorry
theorem dX4_stretch_126 : decode cX4_stretch 126 = .ok (.invokevirtual 198, 3) := sorry
theorem dX4_stretch_129 : decode cX4_stretch 129 = .ok (.aload_n 0, 1) := sorry
theorem dX4_stretch_130 : decode cX4_stretch 130 = .ok (.invokevirtual 204, 3) := sorry
theorem dX4_stretch_133 : decode cX4_stretch 133 = .ok (.ireturn, 1) := sorry
abbrev cX4_isMounted : ByteArray := prog_16_method_30_code
def yX4_isMounted : MethodName := ⟨RX4, "isMounted", "()Z"⟩
def dkwX4_isMounted_0 : List UInt8 := [42, 180, 0, 7, 3, 46, 4, 160, 0, 7, 4, 167, 0, 4, 3, 172]
abbrev dktX4_isMounted_0 : List UInt8 := dkwX4_isMounted_0 ++ []
theorem dksX4_isMounted_0 : cX4_isMounted.data.toList.drop 0 = dktX4_isMounted_0 := sorry
theorem dX4_isMounted_0 : decode cX4_isMounted 0 = .ok (.aload_n 0, 1) := sorry
theorem dX4_isMounted_1 : decode cX4_isMounted 1 = .ok (.getfield 7, 3) := sorry
theorem dX4_isMounted_4 : decode cX4_isMounted 4 = .ok (.iconst 0, 1) := sorry
theorem dX4_isMounted_5 : decode cX4_isMounted 5 = .ok (.iaload, 1) := sorry
theorem dX4_isMounted_6 : decode cX4_isMounted 6 = .ok (.iconst 1, 1) := sorry
theorem dX4_isMounted_7 : decode cX4_isMounted 7 = .ok (.if_icmp .ne 7, 3) := sorry
theorem dX4_isMounted_10 : decode cX4_isMounted 10 = .ok (.iconst 1, 1) := sorry
theorem dX4_isMounted_11 : decode cX4_isMounted 11 = .ok (.goto 4, 3) := sorry
theorem dX4_isMounted_14 : decode cX4_isMounted 14 = .ok (.iconst 0, 1) := sorry
theorem dX4_isMounted_15 : decode cX4_isMounted 15 = .ok (.ireturn, 1) := sorry
abbrev cX4_mountRibbon : ByteArray := prog_16_method_37_code
def yX4_mountRibbon : MethodName := ⟨RX4, "mountRibbon", "(I)I"⟩
def dkwX4_mountRibbon_2 : List UInt8 := [79, 28, 172]
abbrev dktX4_mountRibbon_2 : List UInt8 := dkwX4_mountRibbon_2 ++ []
def dkwX4_mountRibbon_1 : List UInt8 := [158, 0, 5, 3, 172, 42, 182, 0, 213, 42, 180, 0, 7, 16, 8, 46, 61, 42, 180, 0, 7, 16, 8, 27]
abbrev dktX4_mountRibbon_1 : List UInt8 := dkwX4_mountRibbon_1 ++ dktX4_mountRibbon_2
def dkwX4_mountRibbon_0 : List UInt8 := [42, 27, 3, 18, 219, 184, 0, 115, 153, 0, 7, 3, 167, 0, 4, 4, 181, 0, 92, 42, 180, 0, 92]
abbrev dktX4_mountRibbon_0 : List UInt8 := dkwX4_mountRibbon_0 ++ dktX4_mountRibbon_1
theorem dksX4_mountRibbon_0 : cX4_mountRibbon.data.toList.drop 0 = dktX4_mountRibbon_0 := sorry
theorem dksX4_mountRibbon_1 : cX4_mountRibbon.data.toList.drop 23 = dktX4_mountRibbon_1 := sorry
theorem dksX4_mountRibbon_2 : cX4_mountRibbon.data.toList.drop 47 = dktX4_mountRibbon_2 := sorry
theorem dX4_mountRibbon_0 : decode cX4_mountRibbon 0 = .ok (.aload_n 0, 1) := sorry
theorem dX4_mountRibbon_1 : decode cX4_mountRibbon 1 = .ok (.iload_n 1, 1) := sorry
theorem dX4_mountRibbon_2 : decode cX4_mountRibbon 2 = .ok (.iconst 0, 1) := sorry
theorem dX4_mountRibbon_3 : decode cX4_mountRibbon 3 = .ok (.ldc 219, 2) := sorry
theorem dX4_mountRibbon_5 : decode cX4_mountRibbon 5 = .ok (.invokestatic 115, 3) := sorry
theorem dX4_mountRibbon_8 : decode cX4_mountRibbon 8 = .ok (.ifCond .eq 7, 3) := sorry
theorem dX4_mountRibbon_11 : decode cX4_mountRibbon 11 = .ok (.iconst 0, 1) := sorry
theorem dX4_mountRibbon_12 : decode cX4_mountRibbon 12 = .ok (.goto 4, 3) := sorry
theorem dX4_mountRibbon_15 : decode cX4_mountRibbon 15 = .ok (.iconst 1, 1) := sorry
theorem dX4_mountRibbon_16 : decode cX4_mountRibbon 16 = .ok (.putfield 92, 3) := sorry
theorem dX4_mountRibbon_19 : decode cX4_mountRibbon 19 = .ok (.aload_n 0, 1) := sorry
theorem dX4_mountRibbon_20 : decode cX4_mountRibbon 20 = .ok (.getfield 92, 3) := sorry
theorem dX4_mountRibbon_23 : decode cX4_mountRibbon 23 = .ok (.ifCond .le 5, 3) := sorry
theorem dX4_mountRibbon_26 : decode cX4_mountRibbon 26 = .ok (.iconst 0, 1) := sorry
theorem dX4_mountRibbon_27 : decode cX4_mountRibbon 27 = .ok (.ireturn, 1) := sorry
theorem dX4_mountRibbon_28 : decode cX4_mountRibbon 28 = .ok (.aload_n 0, 1) := sorry
theorem dX4_mountRibbon_29 : decode cX4_mountRibbon 29 = .ok (.invokevirtual 213, 3) := sorry
theorem dX4_mountRibbon_32 : decode cX4_mountRibbon 32 = .ok (.aload_n 0, 1) := sorry
theorem dX4_mountRibbon_33 : decode cX4_mountRibbon 33 = .ok (.getfield 7, 3) := sorry
theorem dX4_mountRibbon_36 : decode cX4_mountRibbon 36 = .ok (.bipush 8, 2) := sorry
theorem dX4_mountRibbon_38 : decode cX4_mountRibbon 38 = .ok (.iaload, 1) := sorry
theorem dX4_mountRibbon_39 : decode cX4_mountRibbon 39 = .ok (.istore_n 2, 1) := sorry
theorem dX4_mountRibbon_40 : decode cX4_mountRibbon 40 = .ok (.aload_n 0, 1) := sorry
theorem dX4_mountRibbon_41 : decode cX4_mountRibbon 41 = .ok (.getfield 7, 3) := sorry
theorem dX4_mountRibbon_44 : decode cX4_mountRibbon 44 = .ok (.bipush 8, 2) := sorry
theorem dX4_mountRibbon_46 : decode cX4_mountRibbon 46 = .ok (.iload_n 1, 1) := sorry
theorem dX4_mountRibbon_47 : decode cX4_mountRibbon 47 = .ok (.iastore, 1) := sorry
theorem dX4_mountRibbon_48 : decode cX4_mountRibbon 48 = .ok (.iload_n 2, 1) := sorry
theorem dX4_mountRibbon_49 : decode cX4_mountRibbon 49 = .ok (.ireturn, 1) := sorry
abbrev cX4_ribbonLeft : ByteArray := prog_16_method_38_code
def yX4_ribbonLeft : MethodName := ⟨RX4, "ribbonLeft", "()I"⟩
def dkwX4_ribbonLeft_0 : List UInt8 := [42, 3, 181, 0, 92, 42, 180, 0, 7, 16, 8, 46, 172]
abbrev dktX4_ribbonLeft_0 : List UInt8 := dkwX4_ribbonLeft_0 ++ []
theorem dksX4_ribbonLeft_0 : cX4_ribbonLeft.data.toList.drop 0 = dktX4_ribbonLeft_0 := sorry
theorem dX4_ribbonLeft_0 : decode cX4_ribbonLeft 0 = .ok (.aload_n 0, 1) := sorry
theorem dX4_ribbonLeft_1 : decode cX4_ribbonLeft 1 = .ok (.iconst 0, 1) := sorry
theorem dX4_ribbonLeft_2 : decode cX4_ribbonLeft 2 = .ok (.putfield 92, 3) := sorry
theorem dX4_ribbonLeft_5 : decode cX4_ribbonLeft 5 = .ok (.aload_n 0, 1) := sorry
theorem dX4_ribbonLeft_6 : decode cX4_ribbonLeft 6 = .ok (.getfield 7, 3) := sorry
theorem dX4_ribbonLeft_9 : decode cX4_ribbonLeft 9 = .ok (.bipush 8, 2) := sorry
theorem dX4_ribbonLeft_11 : decode cX4_ribbonLeft 11 = .ok (.iaload, 1) := sorry
theorem dX4_ribbonLeft_12 : decode cX4_ribbonLeft 12 = .ok (.ireturn, 1) := sorry
abbrev cX4_position : ByteArray := prog_16_method_39_code
def yX4_position : MethodName := ⟨RX4, "position", "()I"⟩
def dkwX4_position_1 : List UInt8 := [167, 0, 9, 42, 180, 0, 7, 4, 46, 172]
abbrev dktX4_position_1 : List UInt8 := dkwX4_position_1 ++ []
def dkwX4_position_0 : List UInt8 := [42, 42, 182, 0, 216, 153, 0, 7, 3, 167, 0, 4, 4, 181, 0, 92, 42, 180, 0, 92, 158, 0, 7, 3]
abbrev dktX4_position_0 : List UInt8 := dkwX4_position_0 ++ dktX4_position_1
theorem dksX4_position_0 : cX4_position.data.toList.drop 0 = dktX4_position_0 := sorry
theorem dksX4_position_1 : cX4_position.data.toList.drop 24 = dktX4_position_1 := sorry
theorem dX4_position_0 : decode cX4_position 0 = .ok (.aload_n 0, 1) := sorry
theorem dX4_position_1 : decode cX4_position 1 = .ok (.aload_n 0, 1) := sorry
theorem dX4_position_2 : decode cX4_position 2 = .ok (.invokevirtual 216, 3) := sorry
theorem dX4_position_5 : decode cX4_position 5 = .ok (.ifCond .eq 7, 3) := sorry
theorem dX4_position_8 : decode cX4_position 8 = .ok (.iconst 0, 1) := sorry
theorem dX4_position_9 : decode cX4_position 9 = .ok (.goto 4, 3) := sorry
theorem dX4_position_12 : decode cX4_position 12 = .ok (.iconst 1, 1) := sorry
theorem dX4_position_13 : decode cX4_position 13 = .ok (.putfield 92, 3) := sorry
theorem dX4_position_16 : decode cX4_position 16 = .ok (.aload_n 0, 1) := sorry
theorem dX4_position_17 : decode cX4_position 17 = .ok (.getfield 92, 3) := sorry
theorem dX4_position_20 : decode cX4_position 20 = .ok (.ifCond .le 7, 3) := sorry
theorem dX4_position_23 : decode cX4_position 23 = .ok (.iconst 0, 1) := sorry
theorem dX4_position_24 : decode cX4_position 24 = .ok (.goto 9, 3) := sorry
theorem dX4_position_27 : decode cX4_position 27 = .ok (.aload_n 0, 1) := sorry
theorem dX4_position_28 : decode cX4_position 28 = .ok (.getfield 7, 3) := sorry
theorem dX4_position_31 : decode cX4_position 31 = .ok (.iconst 1, 1) := sorry
theorem dX4_position_32 : decode cX4_position 32 = .ok (.iaload, 1) := sorry
theorem dX4_position_33 : decode cX4_position 33 = .ok (.ireturn, 1) := sorry
abbrev cX4_webEnd : ByteArray := prog_16_method_40_code
def yX4_webEnd : MethodName := ⟨RX4, "webEnd", "()I"⟩
def dkwX4_webEnd_1 : List UInt8 := [167, 0, 7, 42, 182, 0, 204, 172]
abbrev dktX4_webEnd_1 : List UInt8 := dkwX4_webEnd_1 ++ []
def dkwX4_webEnd_0 : List UInt8 := [42, 42, 182, 0, 216, 153, 0, 7, 3, 167, 0, 4, 4, 181, 0, 92, 42, 180, 0, 92, 158, 0, 7, 3]
abbrev dktX4_webEnd_0 : List UInt8 := dkwX4_webEnd_0 ++ dktX4_webEnd_1
theorem dksX4_webEnd_0 : cX4_webEnd.data.toList.drop 0 = dktX4_webEnd_0 := sorry
theorem dksX4_webEnd_1 : cX4_webEnd.data.toList.drop 24 = dktX4_webEnd_1 := sorry
theorem dX4_webEnd_0 : decode cX4_webEnd 0 = .ok (.aload_n 0, 1) := sorry
theorem dX4_webEnd_1 : decode cX4_webEnd 1 = .ok (.aload_n 0, 1) := sorry
theorem dX4_webEnd_2 : decode cX4_webEnd 2 = .ok (.invokevirtual 216, 3) := sorry
theorem dX4_webEnd_5 : decode cX4_webEnd 5 = .ok (.ifCond .eq 7, 3) := sorry
theorem dX4_webEnd_8 : decode cX4_webEnd 8 = .ok (.iconst 0, 1) := sorry
theorem dX4_webEnd_9 : decode cX4_webEnd 9 = .ok (.goto 4, 3) := sorry
theorem dX4_webEnd_12 : decode cX4_webEnd 12 = .ok (.iconst 1, 1) := sorry
theorem dX4_webEnd_13 : decode cX4_webEnd 13 = .ok (.putfield 92, 3) := sorry
theorem dX4_webEnd_16 : decode cX4_webEnd 16 = .ok (.aload_n 0, 1) := sorry
theorem dX4_webEnd_17 : decode cX4_webEnd 17 = .ok (.getfield 92, 3) := sorry
theorem dX4_webEnd_20 : decode cX4_webEnd 20 = .ok (.ifCond .le 7, 3) := sorry
theorem dX4_webEnd_23 : decode cX4_webEnd 23 = .ok (.iconst 0, 1) := sorry
theorem dX4_webEnd_24 : decode cX4_webEnd 24 = .ok (.goto 7, 3) := sorry
theorem dX4_webEnd_27 : decode cX4_webEnd 27 = .ok (.aload_n 0, 1) := sorry
theorem dX4_webEnd_28 : decode cX4_webEnd 28 = .ok (.invokevirtual 204, 3) := sorry
theorem dX4_webEnd_31 : decode cX4_webEnd 31 = .ok (.ireturn, 1) := sorry
abbrev cX4_labelBegin : ByteArray := prog_16_method_41_code
def yX4_labelBegin : MethodName := ⟨RX4, "labelBegin", "(I)I"⟩
def dkwX4_labelBegin_2 : List UInt8 := [180, 0, 55, 27, 46, 172]
abbrev dktX4_labelBegin_2 : List UInt8 := dkwX4_labelBegin_2 ++ []
def dkwX4_labelBegin_1 : List UInt8 := [154, 0, 7, 5, 167, 0, 4, 3, 181, 0, 92, 42, 180, 0, 92, 158, 0, 7, 3, 167, 0, 9, 42]
abbrev dktX4_labelBegin_1 : List UInt8 := dkwX4_labelBegin_1 ++ dktX4_labelBegin_2
def dkwX4_labelBegin_0 : List UInt8 := [42, 42, 182, 0, 216, 154, 0, 7, 4, 167, 0, 22, 27, 3, 42, 180, 0, 7, 6, 46, 184, 0, 115]
abbrev dktX4_labelBegin_0 : List UInt8 := dkwX4_labelBegin_0 ++ dktX4_labelBegin_1
theorem dksX4_labelBegin_0 : cX4_labelBegin.data.toList.drop 0 = dktX4_labelBegin_0 := sorry
theorem dksX4_labelBegin_1 : cX4_labelBegin.data.toList.drop 23 = dktX4_labelBegin_1 := sorry
theorem dksX4_labelBegin_2 : cX4_labelBegin.data.toList.drop 46 = dktX4_labelBegin_2 := sorry
theorem dX4_labelBegin_0 : decode cX4_labelBegin 0 = .ok (.aload_n 0, 1) := sorry
theorem dX4_labelBegin_1 : decode cX4_labelBegin 1 = .ok (.aload_n 0, 1) := sorry
theorem dX4_labelBegin_2 : decode cX4_labelBegin 2 = .ok (.invokevirtual 216, 3) := sorry
theorem dX4_labelBegin_5 : decode cX4_labelBegin 5 = .ok (.ifCond .ne 7, 3) := sorry
theorem dX4_labelBegin_8 : decode cX4_labelBegin 8 = .ok (.iconst 1, 1) := sorry
theorem dX4_labelBegin_9 : decode cX4_labelBegin 9 = .ok (.goto 22, 3) := sorry
theorem dX4_labelBegin_12 : decode cX4_labelBegin 12 = .ok (.iload_n 1, 1) := sorry
theorem dX4_labelBegin_13 : decode cX4_labelBegin 13 = .ok (.iconst 0, 1) := sorry
theorem dX4_labelBegin_14 : decode cX4_labelBegin 14 = .ok (.aload_n 0, 1) := sorry
theorem dX4_labelBegin_15 : decode cX4_labelBegin 15 = .ok (.getfield 7, 3) := sorry
theorem dX4_labelBegin_18 : decode cX4_labelBegin 18 = .ok (.iconst 3, 1) := sorry
theorem dX4_labelBegin_19 : decode cX4_labelBegin 19 = .ok (.iaload, 1) := sorry
theorem dX4_labelBegin_20 : decode cX4_labelBegin 20 = .ok (.invokestatic 115, 3) := sorry
theorem dX4_labelBegin_23 : decode cX4_labelBegin 23 = .ok (.ifCond .ne 7, 3) := sorry
theorem dX4_labelBegin_26 : decode cX4_labelBegin 26 = .ok (.iconst 2, 1) := sorry
theorem dX4_labelBegin_27 : decode cX4_labelBegin 27 = .ok (.goto 4, 3) := sorry
theorem dX4_labelBegin_30 : decode cX4_labelBegin 30 = .ok (.iconst 0, 1) := sorry
theorem dX4_labelBegin_31 : decode cX4_labelBegin 31 = .ok (.putfield 92, 3) := sorry
theorem dX4_labelBegin_34 : decode cX4_labelBegin 34 = .ok (.aload_n 0, 1) := sorry
theorem dX4_labelBegin_35 : decode cX4_labelBegin 35 = .ok (.getfield 92, 3) := sorry
theorem dX4_labelBegin_38 : decode cX4_labelBegin 38 = .ok (.ifCond .le 7, 3) := sorry
theorem dX4_labelBegin_41 : decode cX4_labelBegin 41 = .ok (.iconst 0, 1) := sorry
theorem dX4_labelBegin_42 : decode cX4_labelBegin 42 = .ok (.goto 9, 3) := sorry
theorem dX4_labelBegin_45 : decode cX4_labelBegin 45 = .ok (.aload_n 0, 1) := sorry
theorem dX4_labelBegin_46 : decode cX4_labelBegin 46 = .ok (.getfield 55, 3) := sorry
theorem dX4_labelBegin_49 : decode cX4_labelBegin 49 = .ok (.iload_n 1, 1) := sorry
theorem dX4_labelBegin_50 : decode cX4_labelBegin 50 = .ok (.iaload, 1) := sorry
theorem dX4_labelBegin_51 : decode cX4_labelBegin 51 = .ok (.ireturn, 1) := sorry
abbrev cX4_lightAt : ByteArray := prog_16_method_42_code
def yX4_lightAt : MethodName := ⟨RX4, "lightAt", "(I)I"⟩
def dkwX4_lightAt_1 : List UInt8 := [167, 0, 8, 42, 27, 182, 0, 220, 172]
abbrev dktX4_lightAt_1 : List UInt8 := dkwX4_lightAt_1 ++ []
def dkwX4_lightAt_0 : List UInt8 := [42, 42, 182, 0, 216, 153, 0, 7, 3, 167, 0, 4, 4, 181, 0, 92, 42, 180, 0, 92, 158, 0, 7, 3]
abbrev dktX4_lightAt_0 : List UInt8 := dkwX4_lightAt_0 ++ dktX4_lightAt_1
theorem dksX4_lightAt_0 : cX4_lightAt.data.toList.drop 0 = dktX4_lightAt_0 := sorry
theorem dksX4_lightAt_1 : cX4_lightAt.data.toList.drop 24 = dktX4_lightAt_1 := sorry
theorem dX4_lightAt_0 : decode cX4_lightAt 0 = .ok (.aload_n 0, 1) := sorry
theorem dX4_lightAt_1 : decode cX4_lightAt 1 = .ok (.aload_n 0, 1) := sorry
theorem dX4_lightAt_2 : decode cX4_lightAt 2 = .ok (.invokevirtual 216, 3) := sorry
theorem dX4_lightAt_5 : decode cX4_lightAt 5 = .ok (.ifCond .eq 7, 3) := sorry
theorem dX4_lightAt_8 : decode cX4_lightAt 8 = .ok (.iconst 0, 1) := sorry
theorem dX4_lightAt_9 : decode cX4_lightAt 9 = .ok (.goto 4, 3) := sorry
theorem dX4_lightAt_12 : decode cX4_lightAt 12 = .ok (.iconst 1, 1) := sorry
theorem dX4_lightAt_13 : decode cX4_lightAt 13 = .ok (.putfield 92, 3) := sorry
theorem dX4_lightAt_16 : decode cX4_lightAt 16 = .ok (.aload_n 0, 1) := sorry
theorem dX4_lightAt_17 : decode cX4_lightAt 17 = .ok (.getfield 92, 3) := sorry
theorem dX4_lightAt_20 : decode cX4_lightAt 20 = .ok (.ifCond .le 7, 3) := sorry
theorem dX4_lightAt_23 : decode cX4_lightAt 23 = .ok (.iconst 0, 1) := sorry
theorem dX4_lightAt_24 : decode cX4_lightAt 24 = .ok (.goto 8, 3) := sorry
theorem dX4_lightAt_27 : decode cX4_lightAt 27 = .ok (.aload_n 0, 1) := sorry
theorem dX4_lightAt_28 : decode cX4_lightAt 28 = .ok (.iload_n 1, 1) := sorry
theorem dX4_lightAt_29 : decode cX4_lightAt 29 = .ok (.invokevirtual 220, 3) := sorry
theorem dX4_lightAt_32 : decode cX4_lightAt 32 = .ok (.ireturn, 1) := sorry
abbrev cX4_light : ByteArray := prog_16_method_33_code
def yX4_light : MethodName := ⟨RX4, "light", "(I)I"⟩
def dkwX4_light_2 : List UInt8 := [16, 6, 46, 167, 0, 10, 42, 180, 0, 7, 16, 7, 46, 172]
abbrev dktX4_light_2 : List UInt8 := dkwX4_light_2 ++ []
def dkwX4_light_1 : List UInt8 := [182, 0, 207, 61, 27, 42, 180, 0, 55, 28, 46, 100, 42, 28, 182, 0, 201, 162, 0, 13, 42, 180, 0, 7]
abbrev dktX4_light_1 : List UInt8 := dkwX4_light_1 ++ dktX4_light_2
def dkwX4_light_0 : List UInt8 := [27, 156, 0, 11, 42, 180, 0, 7, 16, 6, 46, 172, 27, 42, 182, 0, 204, 161, 0, 5, 3, 172, 42, 27]
abbrev dktX4_light_0 : List UInt8 := dkwX4_light_0 ++ dktX4_light_1
theorem dksX4_light_0 : cX4_light.data.toList.drop 0 = dktX4_light_0 := sorry
theorem dksX4_light_1 : cX4_light.data.toList.drop 24 = dktX4_light_1 := sorry
theorem dksX4_light_2 : cX4_light.data.toList.drop 48 = dktX4_light_2 := sorry
theorem dX4_light_0 : decode cX4_light 0 = .ok (.iload_n 1, 1) := sorry
theorem dX4_light_1 : decode cX4_light 1 = .ok (.ifCond .ge 11, 3) := sorry
theorem dX4_light_4 : decode cX4_light 4 = .ok (.aload_n 0, 1) := sorry
theorem dX4_light_5 : decode cX4_light 5 = .ok (.getfield 7, 3) := sorry
theorem dX4_light_8 : decode cX4_light 8 = .ok (.bipush 6, 2) := sorry
theorem dX4_light_10 : decode cX4_light 10 = .ok (.iaload, 1) := sorry
theorem dX4_light_11 : decode cX4_light 11 = .ok (.ireturn, 1) := sorry
theorem dX4_light_12 : decode cX4_light 12 = .ok (.iload_n 1, 1) := sorry
theorem dX4_light_13 : decode cX4_light 13 = .ok (.aload_n 0, 1) := sorry
theorem dX4_light_14 : decode cX4_light 14 = .ok (.invokevirtual 204, 3) := sorry
theorem dX4_light_17 : decode cX4_light 17 = .ok (.if_icmp .lt 5, 3) := sorry
theorem dX4_light_20 : decode cX4_light 20 = .ok (.iconst 0, 1) := sorry
theorem dX4_light_21 : decode cX4_light 21 = .ok (.ireturn, 1) := sorry
theorem dX4_light_22 : decode cX4_light 22 = .ok (.aload_n 0, 1) := sorry
theorem dX4_light_23 : decode cX4_light 23 = .ok (.iload_n 1, 1) := sorry
theorem dX4_light_24 : decode cX4_light 24 = .ok (.invokevirtual 207, 3) := sorry
theorem dX4_light_27 : decode cX4_light 27 = .ok (.istore_n 2, 1) := sorry
theorem dX4_light_28 : decode cX4_light 28 = .ok (.iload_n 1, 1) := sorry
theorem dX4_light_29 : decode cX4_light 29 = .ok (.aload_n 0, 1) := sorry
theorem dX4_light_30 : decode cX4_light 30 = .ok (.getfield 55, 3) := sorry
theorem dX4_light_33 : decode cX4_light 33 = .ok (.iload_n 2, 1) := sorry
theorem dX4_light_34 : decode cX4_light 34 = .ok (.iaload, 1) := sorry
theorem dX4_light_35 : decode cX4_light 35 = .ok (.isub, 1) := sorry
theorem dX4_light_36 : decode cX4_light 36 = .ok (.aload_n 0, 1) := sorry
theorem dX4_light_37 : decode cX4_light 37 = .ok (.iload_n 2, 1) := sorry
theorem dX4_light_38 : decode cX4_light 38 = .ok (.invokevirtual 201, 3) := sorry
theorem dX4_light_41 : decode cX4_light 41 = .ok (.if_icmp .ge 13, 3) := sorry
theorem dX4_light_44 : decode cX4_light 44 = .ok (.aload_n 0, 1) := sorry
theorem dX4_light_45 : decode cX4_light 45 = .ok (.getfield 7, 3) := sorry
theorem dX4_light_48 : decode cX4_light 48 = .ok (.bipush 6, 2) := sorry
theorem dX4_light_50 : decode cX4_light 50 = .ok (.iaload, 1) := sorry
theorem dX4_light_51 : decode cX4_light 51 = .ok (.goto 10, 3) := sorry
theorem dX4_light_54 : decode cX4_light 54 = .ok (.aload_n 0, 1) := sorry
theorem dX4_light_55 : decode cX4_light 55 = .ok (.getfield 7, 3) := sorry
theorem dX4_light_58 : decode cX4_light 58 = .ok (.bipush 7, 2) := sorry
theorem dX4_light_60 : decode cX4_light 60 = .ok (.iaload, 1) := sorry
theorem dX4_light_61 : decode cX4_light 61 = .ok (.ireturn, 1) := sorry
abbrev cX4_labelOf : ByteArray := prog_16_method_32_code
def yX4_labelOf : MethodName := ⟨RX4, "labelOf", "(I)I"⟩
def dkwX4_labelOf_2 : List UInt8 := [167, 255, 220, 28, 172]
abbrev dktX4_labelOf_2 : List UInt8 := dkwX4_labelOf_2 ++ []
def dkwX4_labelOf_1 : List UInt8 := [54, 4, 42, 180, 0, 55, 21, 4, 46, 27, 163, 0, 9, 21, 4, 61, 167, 0, 8, 21, 4, 4, 100, 62]
abbrev dktX4_labelOf_1 : List UInt8 := dkwX4_labelOf_1 ++ dktX4_labelOf_2
def dkwX4_labelOf_0 : List UInt8 := [3, 61, 42, 180, 0, 7, 6, 46, 4, 100, 62, 28, 29, 162, 0, 37, 28, 29, 96, 4, 96, 5, 108]
abbrev dktX4_labelOf_0 : List UInt8 := dkwX4_labelOf_0 ++ dktX4_labelOf_1
theorem dksX4_labelOf_0 : cX4_labelOf.data.toList.drop 0 = dktX4_labelOf_0 := sorry
theorem dksX4_labelOf_1 : cX4_labelOf.data.toList.drop 23 = dktX4_labelOf_1 := sorry
theorem dksX4_labelOf_2 : cX4_labelOf.data.toList.drop 47 = dktX4_labelOf_2 := sorry
theorem dX4_labelOf_0 : decode cX4_labelOf 0 = .ok (.iconst 0, 1) := sorry
theorem dX4_labelOf_1 : decode cX4_labelOf 1 = .ok (.istore_n 2, 1) := sorry
theorem dX4_labelOf_2 : decode cX4_labelOf 2 = .ok (.aload_n 0, 1) := sorry
theorem dX4_labelOf_3 : decode cX4_labelOf 3 = .ok (.getfield 7, 3) := sorry
theorem dX4_labelOf_6 : decode cX4_labelOf 6 = .ok (.iconst 3, 1) := sorry
theorem dX4_labelOf_7 : decode cX4_labelOf 7 = .ok (.iaload, 1) := sorry
theorem dX4_labelOf_8 : decode cX4_labelOf 8 = .ok (.iconst 1, 1) := sorry
theorem dX4_labelOf_9 : decode cX4_labelOf 9 = .ok (.isub, 1) := sorry
theorem dX4_labelOf_10 : decode cX4_labelOf 10 = .ok (.istore_n 3, 1) := sorry
theorem dX4_labelOf_11 : decode cX4_labelOf 11 = .ok (.iload_n 2, 1) := sorry
theorem dX4_labelOf_12 : decode cX4_labelOf 12 = .ok (.iload_n 3, 1) := sorry
theorem dX4_labelOf_13 : decode cX4_labelOf 13 = .ok (.if_icmp .ge 37, 3) := sorry
theorem dX4_labelOf_16 : decode cX4_labelOf 16 = .ok (.iload_n 2, 1) := sorry
theorem dX4_labelOf_17 : decode cX4_labelOf 17 = .ok (.iload_n 3, 1) := sorry
theorem dX4_labelOf_18 : decode cX4_labelOf 18 = .ok (.iadd, 1) := sorry
theorem dX4_labelOf_19 : decode cX4_labelOf 19 = .ok (.iconst 1, 1) := sorry
theorem dX4_labelOf_20 : decode cX4_labelOf 20 = .ok (.iadd, 1) := sorry
theorem dX4_labelOf_21 : decode cX4_labelOf 21 = .ok (.iconst 2, 1) := sorry
theorem dX4_labelOf_22 : decode cX4_labelOf 22 = .ok (.idiv, 1) := sorry
theorem dX4_labelOf_23 : decode cX4_labelOf 23 = .ok (.istore 4, 2) := sorry
theorem dX4_labelOf_25 : decode cX4_labelOf 25 = .ok (.aload_n 0, 1) := sorry
theorem dX4_labelOf_26 : decode cX4_labelOf 26 = .ok (.getfield 55, 3) := sorry
theorem dX4_labelOf_29 : decode cX4_labelOf 29 = .ok (.iload 4, 2) := sorry
theorem dX4_labelOf_31 : decode cX4_labelOf 31 = .ok (.iaload, 1) := sorry
theorem dX4_labelOf_32 : decode cX4_labelOf 32 = .ok (.iload_n 1, 1) := sorry
theorem dX4_labelOf_33 : decode cX4_labelOf 33 = .ok (.if_icmp .gt 9, 3) := sorry
theorem dX4_labelOf_36 : decode cX4_labelOf 36 = .ok (.iload 4, 2) := sorry
theorem dX4_labelOf_38 : decode cX4_labelOf 38 = .ok (.istore_n 2, 1) := sorry
theorem dX4_labelOf_39 : decode cX4_labelOf 39 = .ok (.goto 8, 3) := sorry
theorem dX4_labelOf_42 : decode cX4_labelOf 42 = .ok (.iload 4, 2) := sorry
theorem dX4_labelOf_44 : decode cX4_labelOf 44 = .ok (.iconst 1, 1) := sorry
theorem dX4_labelOf_45 : decode cX4_labelOf 45 = .ok (.isub, 1) := sorry
theorem dX4_labelOf_46 : decode cX4_labelOf 46 = .ok (.istore_n 3, 1) := sorry
theorem dX4_labelOf_47 : decode cX4_labelOf 47 = .ok (.goto (-36), 3) := sorry
theorem dX4_labelOf_50 : decode cX4_labelOf 50 = .ok (.iload_n 2, 1) := sorry
theorem dX4_labelOf_51 : decode cX4_labelOf 51 = .ok (.ireturn, 1) := sorry
abbrev cX4_labelUnderHead : ByteArray := prog_16_method_43_code
def yX4_labelUnderHead : MethodName := ⟨RX4, "labelUnderHead", "()I"⟩
def dkwX4_labelUnderHead_2 : List UInt8 := [180, 0, 7, 4, 46, 182, 0, 207, 167, 0, 4, 2, 172]
abbrev dktX4_labelUnderHead_2 : List UInt8 := dkwX4_labelUnderHead_2 ++ []
def dkwX4_labelUnderHead_1 : List UInt8 := [172, 42, 180, 0, 7, 4, 46, 3, 42, 182, 0, 204, 4, 100, 184, 0, 115, 153, 0, 16, 42, 42]
abbrev dktX4_labelUnderHead_1 : List UInt8 := dkwX4_labelUnderHead_1 ++ dktX4_labelUnderHead_2
def dkwX4_labelUnderHead_0 : List UInt8 := [42, 42, 182, 0, 216, 153, 0, 7, 3, 167, 0, 4, 4, 181, 0, 92, 42, 180, 0, 92, 158, 0, 5, 3]
abbrev dktX4_labelUnderHead_0 : List UInt8 := dkwX4_labelUnderHead_0 ++ dktX4_labelUnderHead_1
theorem dksX4_labelUnderHead_0 : cX4_labelUnderHead.data.toList.drop 0 = dktX4_labelUnderHead_0 := sorry
theorem dksX4_labelUnderHead_1 : cX4_labelUnderHead.data.toList.drop 24 = dktX4_labelUnderHead_1 := sorry
theorem dksX4_labelUnderHead_2 : cX4_labelUnderHead.data.toList.drop 46 = dktX4_labelUnderHead_2 := sorry
theorem dX4_labelUnderHead_0 : decode cX4_labelUnderHead 0 = .ok (.aload_n 0, 1) := sorry
theorem dX4_labelUnderHead_1 : decode cX4_labelUnderHead 1 = .ok (.aload_n 0, 1) := sorry
theorem dX4_labelUnderHead_2 : decode cX4_labelUnderHead 2 = .ok (.invokevirtual 216, 3) := sorry
theorem dX4_labelUnderHead_5 : decode cX4_labelUnderHead 5 = .ok (.ifCond .eq 7, 3) := sorry
theorem dX4_labelUnderHead_8 : decode cX4_labelUnderHead 8 = .ok (.iconst 0, 1) := sorry
theorem dX4_labelUnderHead_9 : decode cX4_labelUnderHead 9 = .ok (.goto 4, 3) := sorry
theorem dX4_labelUnderHead_12 : decode cX4_labelUnderHead 12 = .ok (.iconst 1, 1) := sorry
theorem dX4_labelUnderHead_13 : decode cX4_labelUnderHead 13 = .ok (.putfield 92, 3) := sorry
theorem dX4_labelUnderHead_16 : decode cX4_labelUnderHead 16 = .ok (.aload_n 0, 1) := sorry
theorem dX4_labelUnderHead_17 : decode cX4_labelUnderHead 17 = .ok (.getfield 92, 3) := sorry
theorem dX4_labelUnderHead_20 : decode cX4_labelUnderHead 20 = .ok (.ifCond .le 5, 3) := sorry
theorem dX4_labelUnderHead_23 : decode cX4_labelUnderHead 23 = .ok (.iconst 0, 1) := sorry
theorem dX4_labelUnderHead_24 : decode cX4_labelUnderHead 24 = .ok (.ireturn, 1) := sorry
theorem dX4_labelUnderHead_25 : decode cX4_labelUnderHead 25 = .ok (.aload_n 0, 1) := sorry
theorem dX4_labelUnderHead_26 : decode cX4_labelUnderHead 26 = .ok (.getfield 7, 3) := sorry
theorem dX4_labelUnderHead_29 : decode cX4_labelUnderHead 29 = .ok (.iconst 1, 1) := sorry
theorem dX4_labelUnderHead_30 : decode cX4_labelUnderHead 30 = .ok (.iaload, 1) := sorry
theorem dX4_labelUnderHead_31 : decode cX4_labelUnderHead 31 = .ok (.iconst 0, 1) := sorry
theorem dX4_labelUnderHead_32 : decode cX4_labelUnderHead 32 = .ok (.aload_n 0, 1) := sorry
theorem dX4_labelUnderHead_33 : decode cX4_labelUnderHead 33 = .ok (.invokevirtual 204, 3) := sorry
theorem dX4_labelUnderHead_36 : decode cX4_labelUnderHead 36 = .ok (.iconst 1, 1) := sorry
theorem dX4_labelUnderHead_37 : decode cX4_labelUnderHead 37 = .ok (.isub, 1) := sorry
theorem dX4_labelUnderHead_38 : decode cX4_labelUnderHead 38 = .ok (.invokestatic 115, 3) := sorry
theorem dX4_labelUnderHead_41 : decode cX4_labelUnderHead 41 = .ok (.ifCond .eq 16, 3) := sorry
theorem dX4_labelUnderHead_44 : decode cX4_labelUnderHead 44 = .ok (.aload_n 0, 1) := sorry
theorem dX4_labelUnderHead_45 : decode cX4_labelUnderHead 45 = .ok (.aload_n 0, 1) := sorry
theorem dX4_labelUnderHead_46 : decode cX4_labelUnderHead 46 = .ok (.getfield 7, 3) := sorry
theorem dX4_labelUnderHead_49 : decode cX4_labelUnderHead 49 = .ok (.iconst 1, 1) := sorry
theorem dX4_labelUnderHead_50 : decode cX4_labelUnderHead 50 = .ok (.iaload, 1) := sorry
theorem dX4_labelUnderHead_51 : decode cX4_labelUnderHead 51 = .ok (.invokevirtual 207, 3) := sorry
theorem dX4_labelUnderHead_54 : decode cX4_labelUnderHead 54 = .ok (.goto 4, 3) := sorry
theorem dX4_labelUnderHead_57 : decode cX4_labelUnderHead 57 = .ok (.iconst (-1), 1) := sorry
theorem dX4_labelUnderHead_58 : decode cX4_labelUnderHead 58 = .ok (.ireturn, 1) := sorry
abbrev cX4_feed : ByteArray := prog_16_method_44_code
def yX4_feed : MethodName := ⟨RX4, "feed", "(I)I"⟩
def dkwX4_feed_3 : List UInt8 := [182, 0, 213, 42, 42, 180, 0, 7, 4, 46, 27, 96, 182, 0, 223, 42, 180, 0, 7, 4, 46, 172]
abbrev dktX4_feed_3 : List UInt8 := dkwX4_feed_3 ++ []
def dkwX4_feed_2 : List UInt8 := [184, 0, 115, 154, 0, 7, 5, 167, 0, 4, 3, 181, 0, 92, 42, 180, 0, 92, 158, 0, 5, 3, 172, 42]
abbrev dktX4_feed_2 : List UInt8 := dkwX4_feed_2 ++ dktX4_feed_3
def dkwX4_feed_1 : List UInt8 := [153, 0, 28, 42, 180, 0, 7, 4, 46, 27, 96, 17, 254, 12, 42, 182, 0, 204, 17, 1, 244, 96]
abbrev dktX4_feed_1 : List UInt8 := dkwX4_feed_1 ++ dktX4_feed_2
def dkwX4_feed_0 : List UInt8 := [42, 42, 182, 0, 216, 154, 0, 7, 4, 167, 0, 46, 27, 17, 254, 212, 17, 1, 44, 184, 0, 115]
abbrev dktX4_feed_0 : List UInt8 := dkwX4_feed_0 ++ dktX4_feed_1
theorem dksX4_feed_0 : cX4_feed.data.toList.drop 0 = dktX4_feed_0 := sorry
theorem dksX4_feed_1 : cX4_feed.data.toList.drop 22 = dktX4_feed_1 := sorry
theorem dksX4_feed_2 : cX4_feed.data.toList.drop 44 = dktX4_feed_2 := sorry
theorem dksX4_feed_3 : cX4_feed.data.toList.drop 68 = dktX4_feed_3 := sorry
theorem dX4_feed_0 : decode cX4_feed 0 = .ok (.aload_n 0, 1) := sorry
theorem dX4_feed_1 : decode cX4_feed 1 = .ok (.aload_n 0, 1) := sorry
theorem dX4_feed_2 : decode cX4_feed 2 = .ok (.invokevirtual 216, 3) := sorry
theorem dX4_feed_5 : decode cX4_feed 5 = .ok (.ifCond .ne 7, 3) := sorry
theorem dX4_feed_8 : decode cX4_feed 8 = .ok (.iconst 1, 1) := sorry
theorem dX4_feed_9 : decode cX4_feed 9 = .ok (.goto 46, 3) := sorry
theorem dX4_feed_12 : decode cX4_feed 12 = .ok (.iload_n 1, 1) := sorry
theorem dX4_feed_13 : decode cX4_feed 13 = .ok (.sipush (-300), 3) := sorry
theorem dX4_feed_16 : decode cX4_feed 16 = .ok (.sipush 300, 3) := sorry
theorem dX4_feed_19 : decode cX4_feed 19 = .ok (.invokestatic 115, 3) := sorry
theorem dX4_feed_22 : decode cX4_feed 22 = .ok (.ifCond .eq 28, 3) := sorry
theorem dX4_feed_25 : decode cX4_feed 25 = .ok (.aload_n 0, 1) := sorry
theorem dX4_feed_26 : decode cX4_feed 26 = .ok (.getfield 7, 3) := sorry
theorem dX4_feed_29 : decode cX4_feed 29 = .ok (.iconst 1, 1) := sorry
theorem dX4_feed_30 : decode cX4_feed 30 = .ok (.iaload, 1) := sorry
theorem dX4_feed_31 : decode cX4_feed 31 = .ok (.iload_n 1, 1) := sorry
theorem dX4_feed_32 : decode cX4_feed 32 = .ok (.iadd, 1) := sorry
theorem dX4_feed_33 : decode cX4_feed 33 = .ok (.sipush (-500), 3) := sorry
theorem dX4_feed_36 : decode cX4_feed 36 = .ok (.aload_n 0, 1) := sorry
theorem dX4_feed_37 : decode cX4_feed 37 = .ok (.invokevirtual 204, 3) := sorry
theorem dX4_feed_40 : decode cX4_feed 40 = .ok (.sipush 500, 3) := sorry
theorem dX4_feed_43 : decode cX4_feed 43 = .ok (.iadd, 1) := sorry
theorem dX4_feed_44 : decode cX4_feed 44 = .ok (.invokestatic 115, 3) := sorry
theorem dX4_feed_47 : decode cX4_feed 47 = .ok (.ifCond .ne 7, 3) := sorry
theorem dX4_feed_50 : decode cX4_feed 50 = .ok (.iconst 2, 1) := sorry
theorem dX4_feed_51 : decode cX4_feed 51 = .ok (.goto 4, 3) := sorry
theorem dX4_feed_54 : decode cX4_feed 54 = .ok (.iconst 0, 1) := sorry
theorem dX4_feed_55 : decode cX4_feed 55 = .ok (.putfield 92, 3) := sorry
theorem dX4_feed_58 : decode cX4_feed 58 = .ok (.aload_n 0, 1) := sorry
theorem dX4_feed_59 : decode cX4_feed 59 = .ok (.getfield 92, 3) := sorry
theorem dX4_feed_62 : decode cX4_feed 62 = .ok (.ifCond .le 5, 3) := sorry
theorem dX4_feed_65 : decode cX4_feed 65 = .ok (.iconst 0, 1) := sorry
theorem dX4_feed_66 : decode cX4_feed 66 = .ok (.ireturn, 1) := sorry
theorem dX4_feed_67 : decode cX4_feed 67 = .ok (.aload_n 0, 1) := sorry
theorem dX4_feed_68 : decode cX4_feed 68 = .ok (.invokevirtual 213, 3) := sorry
theorem dX4_feed_71 : decode cX4_feed 71 = .ok (.aload_n 0, 1) := sorry
theorem dX4_feed_72 : decode cX4_feed 72 = .ok (.aload_n 0, 1) := sorry
theorem dX4_feed_73 : decode cX4_feed 73 = .ok (.getfield 7, 3) := sorry
theorem dX4_feed_76 : decode cX4_feed 76 = .ok (.iconst 1, 1) := sorry
theorem dX4_feed_77 : decode cX4_feed 77 = .ok (.iaload, 1) := sorry
theorem dX4_feed_78 : decode cX4_feed 78 = .ok (.iload_n 1, 1) := sorry
theorem dX4_feed_79 : decode cX4_feed 79 = .ok (.iadd, 1) := sorry
theorem dX4_feed_80 : decode cX4_feed 80 = .ok (.invokevirtual 223, 3) := sorry
theorem dX4_feed_83 : decode cX4_feed 83 = .ok (.aload_n 0, 1) := sorry
theorem dX4_feed_84 : decode cX4_feed 84 = .ok (.getfield 7, 3) := sorry
theorem dX4_feed_87 : decode cX4_feed 87 = .ok (.iconst 1, 1) := sorry
theorem dX4_feed_88 : decode cX4_feed 88 = .ok (.iaload, 1) := sorry
theorem dX4_feed_89 : decode cX4_feed 89 = .ok (.ireturn, 1) := sorry
abbrev cX4_feedsTo : ByteArray := prog_16_method_34_code
def yX4_feedsTo : MethodName := ⟨RX4, "feedsTo", "(I)V"⟩
def dkwX4_feedsTo_2 : List UInt8 := [4, 46, 27, 100, 96, 79, 42, 180, 0, 7, 4, 27, 79, 177]
abbrev dktX4_feedsTo_2 : List UInt8 := dkwX4_feedsTo_2 ++ []
def dkwX4_feedsTo_1 : List UInt8 := [42, 180, 0, 19, 96, 184, 0, 210, 79, 167, 0, 21, 42, 180, 0, 7, 16, 25, 92, 46, 42, 180, 0, 7]
abbrev dktX4_feedsTo_1 : List UInt8 := dkwX4_feedsTo_1 ++ dktX4_feedsTo_2
def dkwX4_feedsTo_0 : List UInt8 := [27, 42, 180, 0, 7, 4, 46, 164, 0, 29, 42, 180, 0, 7, 5, 42, 180, 0, 7, 5, 46, 27, 4, 100]
abbrev dktX4_feedsTo_0 : List UInt8 := dkwX4_feedsTo_0 ++ dktX4_feedsTo_1
theorem dksX4_feedsTo_0 : cX4_feedsTo.data.toList.drop 0 = dktX4_feedsTo_0 := sorry
theorem dksX4_feedsTo_1 : cX4_feedsTo.data.toList.drop 24 = dktX4_feedsTo_1 := sorry
theorem dksX4_feedsTo_2 : cX4_feedsTo.data.toList.drop 48 = dktX4_feedsTo_2 := sorry
theorem dX4_feedsTo_0 : decode cX4_feedsTo 0 = .ok (.iload_n 1, 1) := sorry
theorem dX4_feedsTo_1 : decode cX4_feedsTo 1 = .ok (.aload_n 0, 1) := sorry
theorem dX4_feedsTo_2 : decode cX4_feedsTo 2 = .ok (.getfield 7, 3) := sorry
theorem dX4_feedsTo_5 : decode cX4_feedsTo 5 = .ok (.iconst 1, 1) := sorry
theorem dX4_feedsTo_6 : decode cX4_feedsTo 6 = .ok (.iaload, 1) := sorry
theorem dX4_feedsTo_7 : decode cX4_feedsTo 7 = .ok (.if_icmp .le 29, 3) := sorry
theorem dX4_feedsTo_10 : decode cX4_feedsTo 10 = .ok (.aload_n 0, 1) := sorry
theorem dX4_feedsTo_11 : decode cX4_feedsTo 11 = .ok (.getfield 7, 3) := sorry
theorem dX4_feedsTo_14 : decode cX4_feedsTo 14 = .ok (.iconst 2, 1) := sorry
theorem dX4_feedsTo_15 : decode cX4_feedsTo 15 = .ok (.aload_n 0, 1) := sorry
theorem dX4_feedsTo_16 : decode cX4_feedsTo 16 = .ok (.getfield 7, 3) := sorry
theorem dX4_feedsTo_19 : decode cX4_feedsTo 19 = .ok (.iconst 2, 1) := sorry
theorem dX4_feedsTo_20 : decode cX4_feedsTo 20 = .ok (.iaload, 1) := sorry
theorem dX4_feedsTo_21 : decode cX4_feedsTo 21 = .ok (.iload_n 1, 1) := sorry
theorem dX4_feedsTo_22 : decode cX4_feedsTo 22 = .ok (.iconst 1, 1) := sorry
theorem dX4_feedsTo_23 : decode cX4_feedsTo 23 = .ok (.isub, 1) := sorry
theorem dX4_feedsTo_24 : decode cX4_feedsTo 24 = .ok (.aload_n 0, 1) := sorry
theorem dX4_feedsTo_25 : decode cX4_feedsTo 25 = .ok (.getfield 19, 3) := sorry
theorem dX4_feedsTo_28 : decode cX4_feedsTo 28 = .ok (.iadd, 1) := sorry
theorem dX4_feedsTo_29 : decode cX4_feedsTo 29 = .ok (.invokestatic 210, 3) := sorry
theorem dX4_feedsTo_32 : decode cX4_feedsTo 32 = .ok (.iastore, 1) := sorry
theorem dX4_feedsTo_33 : decode cX4_feedsTo 33 = .ok (.goto 21, 3) := sorry
theorem dX4_feedsTo_36 : decode cX4_feedsTo 36 = .ok (.aload_n 0, 1) := sorry
theorem dX4_feedsTo_37 : decode cX4_feedsTo 37 = .ok (.getfield 7, 3) := sorry
theorem dX4_feedsTo_40 : decode cX4_feedsTo 40 = .ok (.bipush 25, 2) := sorry
theorem dX4_feedsTo_42 : decode cX4_feedsTo 42 = .ok (.dup2, 1) := sorry
theorem dX4_feedsTo_43 : decode cX4_feedsTo 43 = .ok (.iaload, 1) := sorry
theorem dX4_feedsTo_44 : decode cX4_feedsTo 44 = .ok (.aload_n 0, 1) := sorry
theorem dX4_feedsTo_45 : decode cX4_feedsTo 45 = .ok (.getfield 7, 3) := sorry
theorem dX4_feedsTo_48 : decode cX4_feedsTo 48 = .ok (.iconst 1, 1) := sorry
theorem dX4_feedsTo_49 : decode cX4_feedsTo 49 = .ok (.iaload, 1) := sorry
theorem dX4_feedsTo_50 : decode cX4_feedsTo 50 = .ok (.iload_n 1, 1) := sorry
theorem dX4_feedsTo_51 : decode cX4_feedsTo 51 = .ok (.isub, 1) := sorry
theorem dX4_feedsTo_52 : decode cX4_feedsTo 52 = .ok (.iadd, 1) := sorry
theorem dX4_feedsTo_53 : decode cX4_feedsTo 53 = .ok (.iastore, 1) := sorry
theorem dX4_feedsTo_54 : decode cX4_feedsTo 54 = .ok (.aload_n 0, 1) := sorry
theorem dX4_feedsTo_55 : decode cX4_feedsTo 55 = .ok (.getfield 7, 3) := sorry
theorem dX4_feedsTo_58 : decode cX4_feedsTo 58 = .ok (.iconst 1, 1) := sorry
theorem dX4_feedsTo_59 : decode cX4_feedsTo 59 = .ok (.iload_n 1, 1) := sorry
theorem dX4_feedsTo_60 : decode cX4_feedsTo 60 = .ok (.iastore, 1) := sorry
theorem dX4_feedsTo_61 : decode cX4_feedsTo 61 = .ok (.return_, 1) := sorry
abbrev cX4_greater : ByteArray := prog_16_method_5_code
def yX4_greater : MethodName := ⟨RX4, "greater", "(II)I"⟩
def dkwX4_greater_0 : List UInt8 := [26, 27, 164, 0, 7, 26, 167, 0, 4, 27, 172]
abbrev dktX4_greater_0 : List UInt8 := dkwX4_greater_0 ++ []
theorem dksX4_greater_0 : cX4_greater.data.toList.drop 0 = dktX4_greater_0 := sorry
theorem dX4_greater_0 : decode cX4_greater 0 = .ok (.iload_n 0, 1) := sorry
theorem dX4_greater_1 : decode cX4_greater 1 = .ok (.iload_n 1, 1) := sorry
theorem dX4_greater_2 : decode cX4_greater 2 = .ok (.if_icmp .le 7, 3) := sorry
theorem dX4_greater_5 : decode cX4_greater 5 = .ok (.iload_n 0, 1) := sorry
theorem dX4_greater_6 : decode cX4_greater 6 = .ok (.goto 4, 3) := sorry
theorem dX4_greater_9 : decode cX4_greater 9 = .ok (.iload_n 1, 1) := sorry
theorem dX4_greater_10 : decode cX4_greater 10 = .ok (.ireturn, 1) := sorry
abbrev cX4_feedToForm : ByteArray := prog_16_method_45_code
def yX4_feedToForm : MethodName := ⟨RX4, "feedToForm", "()I"⟩
def dkwX4_feedToForm_2 : List UInt8 := [180, 0, 7, 16, 14, 46, 182, 0, 223, 27, 172]
abbrev dktX4_feedToForm_2 : List UInt8 := dkwX4_feedToForm_2 ++ []
def dkwX4_feedToForm_1 : List UInt8 := [172, 42, 182, 0, 213, 42, 180, 0, 7, 16, 14, 46, 42, 180, 0, 7, 4, 46, 100, 60, 42, 42]
abbrev dktX4_feedToForm_1 : List UInt8 := dkwX4_feedToForm_1 ++ dktX4_feedToForm_2
def dkwX4_feedToForm_0 : List UInt8 := [42, 42, 182, 0, 227, 153, 0, 7, 3, 167, 0, 4, 4, 181, 0, 92, 42, 180, 0, 92, 158, 0, 5, 3]
abbrev dktX4_feedToForm_0 : List UInt8 := dkwX4_feedToForm_0 ++ dktX4_feedToForm_1
theorem dksX4_feedToForm_0 : cX4_feedToForm.data.toList.drop 0 = dktX4_feedToForm_0 := sorry
theorem dksX4_feedToForm_1 : cX4_feedToForm.data.toList.drop 24 = dktX4_feedToForm_1 := sorry
theorem dksX4_feedToForm_2 : cX4_feedToForm.data.toList.drop 46 = dktX4_feedToForm_2 := sorry
theorem dX4_feedToForm_0 : decode cX4_feedToForm 0 = .ok (.aload_n 0, 1) := sorry
theorem dX4_feedToForm_1 : decode cX4_feedToForm 1 = .ok (.aload_n 0, 1) := sorry
theorem dX4_feedToForm_2 : decode cX4_feedToForm 2 = .ok (.invokevirtual 227, 3) := sorry
theorem dX4_feedToForm_5 : decode cX4_feedToForm 5 = .ok (.ifCond .eq 7, 3) := sorry
theorem dX4_feedToForm_8 : decode cX4_feedToForm 8 = .ok (.iconst 0, 1) := sorry
theorem dX4_feedToForm_9 : decode cX4_feedToForm 9 = .ok (.goto 4, 3) := sorry
theorem dX4_feedToForm_12 : decode cX4_feedToForm 12 = .ok (.iconst 1, 1) := sorry
theorem dX4_feedToForm_13 : decode cX4_feedToForm 13 = .ok (.putfield 92, 3) := sorry
theorem dX4_feedToForm_16 : decode cX4_feedToForm 16 = .ok (.aload_n 0, 1) := sorry
theorem dX4_feedToForm_17 : decode cX4_feedToForm 17 = .ok (.getfield 92, 3) := sorry
theorem dX4_feedToForm_20 : decode cX4_feedToForm 20 = .ok (.ifCond .le 5, 3) := sorry
theorem dX4_feedToForm_23 : decode cX4_feedToForm 23 = .ok (.iconst 0, 1) := sorry
theorem dX4_feedToForm_24 : decode cX4_feedToForm 24 = .ok (.ireturn, 1) := sorry
theorem dX4_feedToForm_25 : decode cX4_feedToForm 25 = .ok (.aload_n 0, 1) := sorry
theorem dX4_feedToForm_26 : decode cX4_feedToForm 26 = .ok (.invokevirtual 213, 3) := sorry
theorem dX4_feedToForm_29 : decode cX4_feedToForm 29 = .ok (.aload_n 0, 1) := sorry
theorem dX4_feedToForm_30 : decode cX4_feedToForm 30 = .ok (.getfield 7, 3) := sorry
theorem dX4_feedToForm_33 : decode cX4_feedToForm 33 = .ok (.bipush 14, 2) := sorry
theorem dX4_feedToForm_35 : decode cX4_feedToForm 35 = .ok (.iaload, 1) := sorry
theorem dX4_feedToForm_36 : decode cX4_feedToForm 36 = .ok (.aload_n 0, 1) := sorry
theorem dX4_feedToForm_37 : decode cX4_feedToForm 37 = .ok (.getfield 7, 3) := sorry
theorem dX4_feedToForm_40 : decode cX4_feedToForm 40 = .ok (.iconst 1, 1) := sorry
theorem dX4_feedToForm_41 : decode cX4_feedToForm 41 = .ok (.iaload, 1) := sorry
theorem dX4_feedToForm_42 : decode cX4_feedToForm 42 = .ok (.isub, 1) := sorry
theorem dX4_feedToForm_43 : decode cX4_feedToForm 43 = .ok (.istore_n 1, 1) := sorry
theorem dX4_feedToForm_44 : decode cX4_feedToForm 44 = .ok (.aload_n 0, 1) := sorry
theorem dX4_feedToForm_45 : decode cX4_feedToForm 45 = .ok (.aload_n 0, 1) := sorry
theorem dX4_feedToForm_46 : decode cX4_feedToForm 46 = .ok (.getfield 7, 3) := sorry
theorem dX4_feedToForm_49 : decode cX4_feedToForm 49 = .ok (.bipush 14, 2) := sorry
theorem dX4_feedToForm_51 : decode cX4_feedToForm 51 = .ok (.iaload, 1) := sorry
theorem dX4_feedToForm_52 : decode cX4_feedToForm 52 = .ok (.invokevirtual 223, 3) := sorry
theorem dX4_feedToForm_55 : decode cX4_feedToForm 55 = .ok (.iload_n 1, 1) := sorry
theorem dX4_feedToForm_56 : decode cX4_feedToForm 56 = .ok (.ireturn, 1) := sorry
abbrev cX4_isReadyNow : ByteArray := prog_16_method_31_code
def yX4_isReadyNow : MethodName := ⟨RX4, "isReadyNow", "()Z"⟩
def dkwX4_isReadyNow_0 : List UInt8 := [42, 180, 0, 7, 16, 9, 46, 4, 160, 0, 7, 4, 167, 0, 4, 3, 172]
abbrev dktX4_isReadyNow_0 : List UInt8 := dkwX4_isReadyNow_0 ++ []
theorem dksX4_isReadyNow_0 : cX4_isReadyNow.data.toList.drop 0 = dktX4_isReadyNow_0 := sorry
theorem dX4_isReadyNow_0 : decode cX4_isReadyNow 0 = .ok (.aload_n 0, 1) := sorry
theorem dX4_isReadyNow_1 : decode cX4_isReadyNow 1 = .ok (.getfield 7, 3) := sorry
theorem dX4_isReadyNow_4 : decode cX4_isReadyNow 4 = .ok (.bipush 9, 2) := sorry
theorem dX4_isReadyNow_6 : decode cX4_isReadyNow 6 = .ok (.iaload, 1) := sorry
theorem dX4_isReadyNow_7 : decode cX4_isReadyNow 7 = .ok (.iconst 1, 1) := sorry
theorem dX4_isReadyNow_8 : decode cX4_isReadyNow 8 = .ok (.if_icmp .ne 7, 3) := sorry
theorem dX4_isReadyNow_11 : decode cX4_isReadyNow 11 = .ok (.iconst 1, 1) := sorry
theorem dX4_isReadyNow_12 : decode cX4_isReadyNow 12 = .ok (.goto 4, 3) := sorry
theorem dX4_isReadyNow_15 : decode cX4_isReadyNow 15 = .ok (.iconst 0, 1) := sorry
theorem dX4_isReadyNow_16 : decode cX4_isReadyNow 16 = .ok (.ireturn, 1) := sorry
abbrev cX4_learn : ByteArray := prog_16_method_53_code
def yX4_learn : MethodName := ⟨RX4, "learn", "()I"⟩
def dkwX4_learn_1 : List UInt8 := [172, 42, 182, 0, 213, 42, 182, 0, 252, 172]
abbrev dktX4_learn_1 : List UInt8 := dkwX4_learn_1 ++ []
def dkwX4_learn_0 : List UInt8 := [42, 42, 182, 0, 216, 153, 0, 7, 3, 167, 0, 4, 4, 181, 0, 92, 42, 180, 0, 92, 158, 0, 5, 3]
abbrev dktX4_learn_0 : List UInt8 := dkwX4_learn_0 ++ dktX4_learn_1
theorem dksX4_learn_0 : cX4_learn.data.toList.drop 0 = dktX4_learn_0 := sorry
theorem dksX4_learn_1 : cX4_learn.data.toList.drop 24 = dktX4_learn_1 := sorry
theorem dX4_learn_0 : decode cX4_learn 0 = .ok (.aload_n 0, 1) := sorry
theorem dX4_learn_1 : decode cX4_learn 1 = .ok (.aload_n 0, 1) := sorry
theorem dX4_learn_2 : decode cX4_learn 2 = .ok (.invokevirtual 216, 3) := sorry
theorem dX4_learn_5 : decode cX4_learn 5 = .ok (.ifCond .eq 7, 3) := sorry
theorem dX4_learn_8 : decode cX4_learn 8 = .ok (.iconst 0, 1) := sorry
theorem dX4_learn_9 : decode cX4_learn 9 = .ok (.goto 4, 3) := sorry
theorem dX4_learn_12 : decode cX4_learn 12 = .ok (.iconst 1, 1) := sorry
theorem dX4_learn_13 : decode cX4_learn 13 = .ok (.putfield 92, 3) := sorry
theorem dX4_learn_16 : decode cX4_learn 16 = .ok (.aload_n 0, 1) := sorry
theorem dX4_learn_17 : decode cX4_learn 17 = .ok (.getfield 92, 3) := sorry
theorem dX4_learn_20 : decode cX4_learn 20 = .ok (.ifCond .le 5, 3) := sorry
theorem dX4_learn_23 : decode cX4_learn 23 = .ok (.iconst 0, 1) := sorry
theorem dX4_learn_24 : decode cX4_learn 24 = .ok (.ireturn, 1) := sorry
theorem dX4_learn_25 : decode cX4_learn 25 = .ok (.aload_n 0, 1) := sorry
theorem dX4_learn_26 : decode cX4_learn 26 = .ok (.invokevirtual 213, 3) := sorry
theorem dX4_learn_29 : decode cX4_learn 29 = .ok (.aload_n 0, 1) := sorry
theorem dX4_learn_30 : decode cX4_learn 30 = .ok (.invokevirtual 252, 3) := sorry
theorem dX4_learn_33 : decode cX4_learn 33 = .ok (.ireturn, 1) := sorry
abbrev cX4_learns : ByteArray := prog_16_method_50_code
def yX4_learns : MethodName := ⟨RX4, "learns", "()I"⟩
def dkwX4_learns_9 : List UInt8 := [182, 0, 243, 172]
abbrev dktX4_learns_9 : List UInt8 := dkwX4_learns_9 ++ []
def dkwX4_learns_8 : List UInt8 := [21, 5, 104, 17, 2, 188, 163, 0, 7, 4, 167, 0, 4, 3, 79, 42, 27, 27, 17, 2, 188, 96, 4, 100]
abbrev dktX4_learns_8 : List UInt8 := dkwX4_learns_8 ++ dktX4_learns_9
def dkwX4_learns_7 : List UInt8 := [153, 0, 7, 4, 167, 0, 4, 3, 96, 54, 5, 132, 6, 1, 167, 255, 224, 42, 180, 0, 7, 16, 13, 5]
abbrev dktX4_learns_7 : List UInt8 := dkwX4_learns_7 ++ dktX4_learns_8
def dkwX4_learns_6 : List UInt8 := [54, 5, 27, 54, 6, 21, 6, 27, 17, 2, 188, 96, 162, 0, 28, 21, 5, 42, 21, 6, 182, 0, 230]
abbrev dktX4_learns_6 : List UInt8 := dkwX4_learns_6 ++ dktX4_learns_7
def dkwX4_learns_5 : List UInt8 := [162, 0, 9, 42, 7, 182, 0, 240, 172, 42, 180, 0, 7, 16, 10, 29, 21, 4, 96, 5, 108, 79, 3]
abbrev dktX4_learns_5 : List UInt8 := dkwX4_learns_5 ++ dktX4_learns_6
def dkwX4_learns_4 : List UInt8 := [21, 5, 182, 0, 220, 184, 0, 210, 54, 4, 132, 5, 1, 167, 255, 219, 21, 4, 29, 100, 16, 20]
abbrev dktX4_learns_4 : List UInt8 := dkwX4_learns_4 ++ dktX4_learns_5
def dkwX4_learns_3 : List UInt8 := [21, 5, 27, 17, 2, 188, 96, 162, 0, 33, 29, 42, 21, 5, 182, 0, 220, 184, 0, 237, 62, 21, 4, 42]
abbrev dktX4_learns_3 : List UInt8 := dkwX4_learns_3 ++ dktX4_learns_4
def dkwX4_learns_2 : List UInt8 := [17, 2, 188, 162, 0, 9, 42, 5, 182, 0, 240, 172, 42, 27, 182, 0, 220, 62, 29, 54, 4, 27, 54, 5]
abbrev dktX4_learns_2 : List UInt8 := dkwX4_learns_2 ++ dktX4_learns_3
def dkwX4_learns_1 : List UInt8 := [4, 46, 100, 184, 0, 210, 184, 0, 237, 61, 42, 42, 180, 0, 7, 4, 46, 28, 96, 182, 0, 223, 28]
abbrev dktX4_learns_1 : List UInt8 := dkwX4_learns_1 ++ dktX4_learns_2
def dkwX4_learns_0 : List UInt8 := [42, 180, 0, 7, 4, 46, 42, 180, 0, 19, 96, 60, 17, 2, 188, 3, 42, 182, 0, 204, 42, 180, 0, 7]
abbrev dktX4_learns_0 : List UInt8 := dkwX4_learns_0 ++ dktX4_learns_1
theorem dksX4_learns_0 : cX4_learns.data.toList.drop 0 = dktX4_learns_0 := sorry
theorem dksX4_learns_1 : cX4_learns.data.toList.drop 24 = dktX4_learns_1 := sorry
theorem dksX4_learns_2 : cX4_learns.data.toList.drop 47 = dktX4_learns_2 := sorry
theorem dksX4_learns_3 : cX4_learns.data.toList.drop 71 = dktX4_learns_3 := sorry
theorem dksX4_learns_4 : cX4_learns.data.toList.drop 95 = dktX4_learns_4 := sorry
theorem dksX4_learns_5 : cX4_learns.data.toList.drop 117 = dktX4_learns_5 := sorry
theorem dksX4_learns_6 : cX4_learns.data.toList.drop 140 = dktX4_learns_6 := sorry
theorem dksX4_learns_7 : cX4_learns.data.toList.drop 163 = dktX4_learns_7 := sorry
theorem dksX4_learns_8 : cX4_learns.data.toList.drop 187 = dktX4_learns_8 := sorry
theorem dksX4_learns_9 : cX4_learns.data.toList.drop 211 = dktX4_learns_9 := sorry
theorem dX4_learns_0 : decode cX4_learns 0 = .ok (.aload_n 0, 1) := sorry
theorem dX4_learns_1 : decode cX4_learns 1 = .ok (.getfield 7, 3) := sorry
theorem dX4_learns_4 : decode cX4_learns 4 = .ok (.iconst 1, 1) := sorry
theorem dX4_learns_5 : decode cX4_learns 5 = .ok (.iaload, 1) := sorry
theorem dX4_learns_6 : decode cX4_learns 6 = .ok (.aload_n 0, 1) := sorry
theorem dX4_learns_7 : decode cX4_learns 7 = .ok (.getfield 19, 3) := sorry
theorem dX4_learns_10 : decode cX4_learns 10 = .ok (.iadd, 1) := sorry
theorem dX4_learns_11 : decode cX4_learns 11 = .ok (.istore_n 1, 1) := sorry
theorem dX4_learns_12 : decode cX4_learns 12 = .ok (.sipush 700, 3) := sorry
theorem dX4_learns_15 : decode cX4_learns 15 = .ok (.iconst 0, 1) := sorry
theorem dX4_learns_16 : decode cX4_learns 16 = .ok (.aload_n 0, 1) := sorry
theorem dX4_learns_17 : decode cX4_learns 17 = .ok (.invokevirtual 204, 3) := sorry
theorem dX4_learns_20 : decode cX4_learns 20 = .ok (.aload_n 0, 1) := sorry
theorem dX4_learns_21 : decode cX4_learns 21 = .ok (.getfield 7, 3) := sorry
theorem dX4_learns_24 : decode cX4_learns 24 = .ok (.iconst 1, 1) := sorry
theorem dX4_learns_25 : decode cX4_learns 25 = .ok (.iaload, 1) := sorry
theorem dX4_learns_26 : decode cX4_learns 26 = .ok (.isub, 1) := sorry
theorem dX4_learns_27 : decode cX4_learns 27 = .ok (.invokestatic 210, 3) := sorry
theorem dX4_learns_30 : decode cX4_learns 30 = .ok (.invokestatic 237, 3) := sorry
theorem dX4_learns_33 : decode cX4_learns 33 = .ok (.istore_n 2, 1) := sorry
theorem dX4_learns_34 : decode cX4_learns 34 = .ok (.aload_n 0, 1) := sorry
theorem dX4_learns_35 : decode cX4_learns 35 = .ok (.aload_n 0, 1) := sorry
theorem dX4_learns_36 : decode cX4_learns 36 = .ok (.getfield 7, 3) := sorry
theorem dX4_learns_39 : decode cX4_learns 39 = .ok (.iconst 1, 1) := sorry
theorem dX4_learns_40 : decode cX4_learns 40 = .ok (.iaload, 1) := sorry
theorem dX4_learns_41 : decode cX4_learns 41 = .ok (.iload_n 2, 1) := sorry
theorem dX4_learns_42 : decode cX4_learns 42 = .ok (.iadd, 1) := sorry
theorem dX4_learns_43 : decode cX4_learns 43 = .ok (.invokevirtual 223, 3) := sorry
theorem dX4_learns_46 : decode cX4_learns 46 = .ok (.iload_n 2, 1) := sorry
theorem dX4_learns_47 : decode cX4_learns 47 = .ok (.sipush 700, 3) := sorry
theorem dX4_learns_50 : decode cX4_learns 50 = .ok (.if_icmp .ge 9, 3) := sorry
theorem dX4_learns_53 : decode cX4_learns 53 = .ok (.aload_n 0, 1) := sorry
theorem dX4_learns_54 : decode cX4_learns 54 = .ok (.iconst 2, 1) := sorry
theorem dX4_learns_55 : decode cX4_learns 55 = .ok (.invokevirtual 240, 3) := sorry
theorem dX4_learns_58 : decode cX4_learns 58 = .ok (.ireturn, 1) := sorry
theorem dX4_learns_59 : decode cX4_learns 59 = .ok (.aload_n 0, 1) := sorry
theorem dX4_learns_60 : decode cX4_learns 60 = .ok (.iload_n 1, 1) := sorry
theorem dX4_learns_61 : decode cX4_learns 61 = .ok (.invokevirtual 220, 3) := sorry
theorem dX4_learns_64 : decode cX4_learns 64 = .ok (.istore_n 3, 1) := sorry
theorem dX4_learns_65 : decode cX4_learns 65 = .ok (.iload_n 3, 1) := sorry
theorem dX4_learns_66 : decode cX4_learns 66 = .ok (.istore 4, 2) := sorry
theorem dX4_learns_68 : decode cX4_learns 68 = .ok (.iload_n 1, 1) := sorry
theorem dX4_learns_69 : decode cX4_learns 69 = .ok (.istore 5, 2) := sorry
theorem dX4_learns_71 : decode cX4_learns 71 = .ok (.iload 5, 2) := sorry
theorem dX4_learns_73 : decode cX4_learns 73 = .ok (.iload_n 1, 1) := sorry
theorem dX4_learns_74 : decode cX4_learns 74 = .ok (.sipush 700, 3) := sorry
theorem dX4_learns_77 : decode cX4_learns 77 = .ok (.iadd, 1) := sorry
theorem dX4_learns_78 : decode cX4_learns 78 = .ok (.if_icmp .ge 33, 3) := sorry
theorem dX4_learns_81 : decode cX4_learns 81 = .ok (.iload_n 3, 1) := sorry
theorem dX4_learns_82 : decode cX4_learns 82 = .ok (.aload_n 0, 1) := sorry
theorem dX4_learns_83 : decode cX4_learns 83 = .ok (.iload 5, 2) := sorry
theorem dX4_learns_85 : decode cX4_learns 85 = .ok (.invokevirtual 220, 3) := sorry
theorem dX4_learns_88 : decode cX4_learns 88 = .ok (.invokestatic 237, 3) := sorry
theorem dX4_learns_91 : decode cX4_learns 91 = .ok (.istore_n 3, 1) := sorry
theorem dX4_learns_92 : decode cX4_learns 92 = .ok (.iload 4, 2) := sorry
theorem dX4_learns_94 : decode cX4_learns 94 = .ok (.aload_n 0, 1) := sorry
theorem dX4_learns_95 : decode cX4_learns 95 = .ok (.iload 5, 2) := sorry
theorem dX4_learns_97 : decode cX4_learns 97 = .ok (.invokevirtual 220, 3) := sorry
theorem dX4_learns_100 : decode cX4_learns 100 = .ok (.invokestatic 210, 3) := sorry
theorem dX4_learns_103 : decode cX4_learns 103 = .ok (.istore 4, 2) := sorry
theorem dX4_learns_105 : decode cX4_learns 105 = .ok (.iinc 5 1, 3) := sorry
theorem dX4_learns_108 : decode cX4_learns 108 = .ok (.goto (-37), 3) := sorry
theorem dX4_learns_111 : decode cX4_learns 111 = .ok (.iload 4, 2) := sorry
theorem dX4_learns_113 : decode cX4_learns 113 = .ok (.iload_n 3, 1) := sorry
theorem dX4_learns_114 : decode cX4_learns 114 = .ok (.isub, 1) := sorry
theorem dX4_learns_115 : decode cX4_learns 115 = .ok (.bipush 20, 2) := sorry
theorem dX4_learns_117 : decode cX4_learns 117 = .ok (.if_icmp .ge 9, 3) := sorry
theorem dX4_learns_120 : decode cX4_learns 120 = .ok (.aload_n 0, 1) := sorry
theorem dX4_learns_121 : decode cX4_learns 121 = .ok (.iconst 4, 1) := sorry
theorem dX4_learns_122 : decode cX4_learns 122 = .ok (.invokevirtual 240, 3) := sorry
theorem dX4_learns_125 : decode cX4_learns 125 = .ok (.ireturn, 1) := sorry
theorem dX4_learns_126 : decode cX4_learns 126 = .ok (.aload_n 0, 1) := sorry
theorem dX4_learns_127 : decode cX4_learns 127 = .ok (.getfield 7, 3) := sorry
theorem dX4_learns_130 : decode cX4_learns 130 = .ok (.bipush 10, 2) := sorry
theorem dX4_learns_132 : decode cX4_learns 132 = .ok (.iload_n 3, 1) := sorry
theorem dX4_learns_133 : decode cX4_learns 133 = .ok (.iload 4, 2) := sorry
theorem dX4_learns_135 : decode cX4_learns 135 = .ok (.iadd, 1) := sorry
theorem dX4_learns_136 : decode cX4_learns 136 = .ok (.iconst 2, 1) := sorry
theorem dX4_learns_137 : decode cX4_learns 137 = .ok (.idiv, 1) := sorry
theorem dX4_learns_138 : decode cX4_learns 138 = .ok (.iastore, 1) := sorry
theorem dX4_learns_139 : decode cX4_learns 139 = .ok (.iconst 0, 1) := sorry
theorem dX4_learns_140 : decode cX4_learns 140 = .ok (.istore 5, 2) := sorry
theorem dX4_learns_142 : decode cX4_learns 142 = .ok (.iload_n 1, 1) := sorry
theorem dX4_learns_143 : decode cX4_learns 143 = .ok (.istore 6, 2) := sorry
theorem dX4_learns_145 : decode cX4_learns 145 = .ok (.iload 6, 2) := sorry
theorem dX4_learns_147 : decode cX4_learns 147 = .ok (.iload_n 1, 1) := sorry
theorem dX4_learns_148 : decode cX4_learns 148 = .ok (.sipush 700, 3) := sorry
theorem dX4_learns_151 : decode cX4_learns 151 = .ok (.iadd, 1) := sorry
theorem dX4_learns_152 : decode cX4_learns 152 = .ok (.if_icmp .ge 28, 3) := sorry
theorem dX4_learns_155 : decode cX4_learns 155 = .ok (.iload 5, 2) := sorry
theorem dX4_learns_157 : decode cX4_learns 157 = .ok (.aload_n 0, 1) := sorry
theorem dX4_learns_158 : decode cX4_learns 158 = .ok (.iload 6, 2) := sorry
theorem dX4_learns_160 : decode cX4_learns 160 = .ok (.invokevirtual 230, 3) := sorry
theorem dX4_learns_163 : decode cX4_learns 163 = .ok (.ifCond .eq 7, 3) := sorry
theorem dX4_learns_166 : decode cX4_learns 166 = .ok (.iconst 1, 1) := sorry
theorem dX4_learns_167 : decode cX4_learns 167 = .ok (.goto 4, 3) := sorry
theorem dX4_learns_170 : decode cX4_learns 170 = .ok (.iconst 0, 1) := sorry
theorem dX4_learns_171 : decode cX4_learns 171 = .ok (.iadd, 1) := sorry
theorem dX4_learns_172 : decode cX4_learns 172 = .ok (.istore 5, 2) := sorry
theorem dX4_learns_174 : decode cX4_learns 174 = .ok (.iinc 6 1, 3) := sorry
theorem dX4_learns_177 : decode cX4_learns 177 = .ok (.goto (-32), 3) := sorry
theorem dX4_learns_180 : decode cX4_learns 180 = .ok (.aload_n 0, 1) := sorry
theorem dX4_learns_181 : decode cX4_learns 181 = .ok (.getfield 7, 3) := sorry
theorem dX4_learns_184 : decode cX4_learns 184 = .ok (.bipush 13, 2) := sorry
theorem dX4_learns_186 : decode cX4_learns 186 = .ok (.iconst 2, 1) := sorry
theorem dX4_learns_187 : decode cX4_learns 187 = .ok (.iload 5, 2) := sorry
theorem dX4_learns_189 : decode cX4_learns 189 = .ok (.imul, 1) := sorry
theorem dX4_learns_190 : decode cX4_learns 190 = .ok (.sipush 700, 3) := sorry
theorem dX4_learns_193 : decode cX4_learns 193 = .ok (.if_icmp .gt 7, 3) := sorry
theorem dX4_learns_196 : decode cX4_learns 196 = .ok (.iconst 1, 1) := sorry
theorem dX4_learns_197 : decode cX4_learns 197 = .ok (.goto 4, 3) := sorry
theorem dX4_learns_200 : decode cX4_learns 200 = .ok (.iconst 0, 1) := sorry
theorem dX4_learns_201 : decode cX4_learns 201 = .ok (.iastore, 1) := sorry
theorem dX4_learns_202 : decode cX4_learns 202 = .ok (.aload_n 0, 1) := sorry
theorem dX4_learns_203 : decode cX4_learns 203 = .ok (.iload_n 1, 1) := sorry
theorem dX4_learns_204 : decode cX4_learns 204 = .ok (.iload_n 1, 1) := sorry
theorem dX4_learns_205 : decode cX4_learns 205 = .ok (.sipush 700, 3) := sorry
theorem dX4_learns_208 : decode cX4_learns 208 = .ok (.iadd, 1) := sorry
theorem dX4_learns_209 : decode cX4_learns 209 = .ok (.iconst 1, 1) := sorry
theorem dX4_learns_210 : decode cX4_learns 210 = .ok (.isub, 1) := sorry
theorem dX4_learns_211 : decode cX4_learns 211 = .ok (.invokevirtual 243, 3) := sorry
theorem dX4_learns_214 : decode cX4_learns 214 = .ok (.ireturn, 1) := sorry
abbrev cX4_lesser : ByteArray := prog_16_method_4_code
def yX4_lesser : MethodName := ⟨RX4, "lesser", "(II)I"⟩
def dkwX4_lesser_0 : List UInt8 := [26, 27, 162, 0, 7, 26, 167, 0, 4, 27, 172]
abbrev dktX4_lesser_0 : List UInt8 := dkwX4_lesser_0 ++ []
theorem dksX4_lesser_0 : cX4_lesser.data.toList.drop 0 = dktX4_lesser_0 := sorry
theorem dX4_lesser_0 : decode cX4_lesser 0 = .ok (.iload_n 0, 1) := sorry
theorem dX4_lesser_1 : decode cX4_lesser 1 = .ok (.iload_n 1, 1) := sorry
theorem dX4_lesser_2 : decode cX4_lesser 2 = .ok (.if_icmp .ge 7, 3) := sorry
theorem dX4_lesser_5 : decode cX4_lesser 5 = .ok (.iload_n 0, 1) := sorry
theorem dX4_lesser_6 : decode cX4_lesser 6 = .ok (.goto 4, 3) := sorry
theorem dX4_lesser_9 : decode cX4_lesser 9 = .ok (.iload_n 1, 1) := sorry
theorem dX4_lesser_10 : decode cX4_lesser 10 = .ok (.ireturn, 1) := sorry
abbrev cX4_fails : ByteArray := prog_16_method_49_code
def yX4_fails : MethodName := ⟨RX4, "fails", "(I)I"⟩
def dkwX4_fails_0 : List UInt8 := [42, 180, 0, 7, 16, 15, 27, 79, 42, 180, 0, 7, 16, 9, 3, 79, 27, 172]
abbrev dktX4_fails_0 : List UInt8 := dkwX4_fails_0 ++ []
theorem dksX4_fails_0 : cX4_fails.data.toList.drop 0 = dktX4_fails_0 := sorry
theorem dX4_fails_0 : decode cX4_fails 0 = .ok (.aload_n 0, 1) := sorry
theorem dX4_fails_1 : decode cX4_fails 1 = .ok (.getfield 7, 3) := sorry
theorem dX4_fails_4 : decode cX4_fails 4 = .ok (.bipush 15, 2) := sorry
theorem dX4_fails_6 : decode cX4_fails 6 = .ok (.iload_n 1, 1) := sorry
theorem dX4_fails_7 : decode cX4_fails 7 = .ok (.iastore, 1) := sorry
theorem dX4_fails_8 : decode cX4_fails 8 = .ok (.aload_n 0, 1) := sorry
theorem dX4_fails_9 : decode cX4_fails 9 = .ok (.getfield 7, 3) := sorry
theorem dX4_fails_12 : decode cX4_fails 12 = .ok (.bipush 9, 2) := sorry
theorem dX4_fails_14 : decode cX4_fails 14 = .ok (.iconst 0, 1) := sorry
theorem dX4_fails_15 : decode cX4_fails 15 = .ok (.iastore, 1) := sorry
theorem dX4_fails_16 : decode cX4_fails 16 = .ok (.iload_n 1, 1) := sorry
theorem dX4_fails_17 : decode cX4_fails 17 = .ok (.ireturn, 1) := sorry
abbrev cX4_isLight : ByteArray := prog_16_method_46_code
def yX4_isLight : MethodName := ⟨RX4, "isLight", "(I)Z"⟩
def dkwX4_isLight_0 : List UInt8 := [42, 27, 182, 0, 220, 42, 180, 0, 7, 16, 10, 46, 164, 0, 7, 4, 167, 0, 4, 3, 172]
abbrev dktX4_isLight_0 : List UInt8 := dkwX4_isLight_0 ++ []
theorem dksX4_isLight_0 : cX4_isLight.data.toList.drop 0 = dktX4_isLight_0 := sorry
theorem dX4_isLight_0 : decode cX4_isLight 0 = .ok (.aload_n 0, 1) := sorry
theorem dX4_isLight_1 : decode cX4_isLight 1 = .ok (.iload_n 1, 1) := sorry
theorem dX4_isLight_2 : decode cX4_isLight 2 = .ok (.invokevirtual 220, 3) := sorry
theorem dX4_isLight_5 : decode cX4_isLight 5 = .ok (.aload_n 0, 1) := sorry
theorem dX4_isLight_6 : decode cX4_isLight 6 = .ok (.getfield 7, 3) := sorry
theorem dX4_isLight_9 : decode cX4_isLight 9 = .ok (.bipush 10, 2) := sorry
theorem dX4_isLight_11 : decode cX4_isLight 11 = .ok (.iaload, 1) := sorry
theorem dX4_isLight_12 : decode cX4_isLight 12 = .ok (.if_icmp .le 7, 3) := sorry
theorem dX4_isLight_15 : decode cX4_isLight 15 = .ok (.iconst 1, 1) := sorry
theorem dX4_isLight_16 : decode cX4_isLight 16 = .ok (.goto 4, 3) := sorry
theorem dX4_isLight_19 : decode cX4_isLight 19 = .ok (.iconst 0, 1) := sorry
theorem dX4_isLight_20 : decode cX4_isLight 20 = .ok (.ireturn, 1) := sorry
abbrev cX4_looksForGaps : ByteArray := prog_16_method_51_code
def yX4_looksForGaps : MethodName := ⟨RX4, "looksForGaps", "(II)I"⟩
def dkwX4_looksForGaps_9 : List UInt8 := [180, 0, 7, 16, 15, 3, 79, 3, 172]
abbrev dktX4_looksForGaps_9 : List UInt8 := dkwX4_looksForGaps_9 ++ []
def dkwX4_looksForGaps_8 : List UInt8 := [180, 0, 7, 16, 14, 21, 8, 79, 42, 21, 8, 182, 0, 223, 42, 180, 0, 7, 16, 9, 4, 79, 42]
abbrev dktX4_looksForGaps_8 : List UInt8 := dkwX4_looksForGaps_8 ++ dktX4_looksForGaps_9
def dkwX4_looksForGaps_7 : List UInt8 := [21, 8, 42, 180, 0, 7, 4, 46, 162, 0, 15, 21, 8, 42, 182, 0, 249, 96, 54, 8, 167, 255, 236, 42]
abbrev dktX4_looksForGaps_7 : List UInt8 := dkwX4_looksForGaps_7 ++ dktX4_looksForGaps_8
def dkwX4_looksForGaps_6 : List UInt8 := [16, 12, 21, 4, 29, 100, 79, 42, 180, 0, 7, 16, 11, 21, 5, 21, 4, 100, 79, 21, 7, 54, 8]
abbrev dktX4_looksForGaps_6 : List UInt8 := dkwX4_looksForGaps_6 ++ dktX4_looksForGaps_7
def dkwX4_looksForGaps_5 : List UInt8 := [54, 4, 132, 8, 1, 167, 255, 152, 21, 5, 2, 160, 0, 9, 42, 6, 182, 0, 240, 172, 42, 180, 0, 7]
abbrev dktX4_looksForGaps_5 : List UInt8 := dkwX4_looksForGaps_5 ++ dktX4_looksForGaps_6
def dkwX4_looksForGaps_4 : List UInt8 := [160, 0, 8, 21, 6, 167, 0, 4, 29, 62, 21, 4, 2, 160, 0, 8, 21, 8, 167, 0, 5, 21, 4]
abbrev dktX4_looksForGaps_4 : List UInt8 := dkwX4_looksForGaps_4 ++ dktX4_looksForGaps_5
def dkwX4_looksForGaps_3 : List UInt8 := [100, 182, 0, 234, 153, 0, 44, 42, 21, 8, 182, 0, 234, 154, 0, 35, 21, 8, 54, 7, 21, 4, 2]
abbrev dktX4_looksForGaps_3 : List UInt8 := dkwX4_looksForGaps_3 ++ dktX4_looksForGaps_4
def dkwX4_looksForGaps_2 : List UInt8 := [167, 0, 5, 21, 5, 54, 5, 21, 8, 54, 6, 167, 0, 61, 21, 6, 2, 159, 0, 55, 42, 21, 8, 4]
abbrev dktX4_looksForGaps_2 : List UInt8 := dkwX4_looksForGaps_2 ++ dktX4_looksForGaps_3
def dkwX4_looksForGaps_1 : List UInt8 := [21, 8, 182, 0, 246, 153, 0, 31, 21, 4, 2, 159, 0, 14, 21, 5, 2, 160, 0, 8, 21, 8]
abbrev dktX4_looksForGaps_1 : List UInt8 := dkwX4_looksForGaps_1 ++ dktX4_looksForGaps_2
def dkwX4_looksForGaps_0 : List UInt8 := [2, 62, 2, 54, 4, 2, 54, 5, 2, 54, 6, 2, 54, 7, 27, 54, 8, 21, 8, 28, 163, 0, 104, 42]
abbrev dktX4_looksForGaps_0 : List UInt8 := dkwX4_looksForGaps_0 ++ dktX4_looksForGaps_1
theorem dksX4_looksForGaps_0 : cX4_looksForGaps.data.toList.drop 0 = dktX4_looksForGaps_0 := sorry
theorem dksX4_looksForGaps_1 : cX4_looksForGaps.data.toList.drop 24 = dktX4_looksForGaps_1 := sorry
theorem dksX4_looksForGaps_2 : cX4_looksForGaps.data.toList.drop 46 = dktX4_looksForGaps_2 := sorry
theorem dksX4_looksForGaps_3 : cX4_looksForGaps.data.toList.drop 70 = dktX4_looksForGaps_3 := sorry
theorem dksX4_looksForGaps_4 : cX4_looksForGaps.data.toList.drop 93 = dktX4_looksForGaps_4 := sorry
theorem dksX4_looksForGaps_5 : cX4_looksForGaps.data.toList.drop 116 = dktX4_looksForGaps_5 := sorry
theorem dksX4_looksForGaps_6 : cX4_looksForGaps.data.toList.drop 140 = dktX4_looksForGaps_6 := sorry
theorem dksX4_looksForGaps_7 : cX4_looksForGaps.data.toList.drop 163 = dktX4_looksForGaps_7 := sorry
theorem dksX4_looksForGaps_8 : cX4_looksForGaps.data.toList.drop 187 = dktX4_looksForGaps_8 := sorry
theorem dksX4_looksForGaps_9 : cX4_looksForGaps.data.toList.drop 210 = dktX4_looksForGaps_9 := sorry
theorem dX4_looksForGaps_0 : decode cX4_looksForGaps 0 = .ok (.iconst (-1), 1) := sorry
theorem dX4_looksForGaps_1 : decode cX4_looksForGaps 1 = .ok (.istore_n 3, 1) := sorry
theorem dX4_looksForGaps_2 : decode cX4_looksForGaps 2 = .ok (.iconst (-1), 1) := sorry
theorem dX4_looksForGaps_3 : decode cX4_looksForGaps 3 = .ok (.istore 4, 2) := sorry
theorem dX4_looksForGaps_5 : decode cX4_looksForGaps 5 = .ok (.iconst (-1), 1) := sorry
theorem dX4_looksForGaps_6 : decode cX4_looksForGaps 6 = .ok (.istore 5, 2) := sorry
theorem dX4_looksForGaps_8 : decode cX4_looksForGaps 8 = .ok (.iconst (-1), 1) := sorry
theorem dX4_looksForGaps_9 : decode cX4_looksForGaps 9 = .ok (.istore 6, 2) := sorry
theorem dX4_looksForGaps_11 : decode cX4_looksForGaps 11 = .ok (.iconst (-1), 1) := sorry
theorem dX4_looksForGaps_12 : decode cX4_looksForGaps 12 = .ok (.istore 7, 2) := sorry
theorem dX4_looksForGaps_14 : decode cX4_looksForGaps 14 = .ok (.iload_n 1, 1) := sorry
theorem dX4_looksForGaps_15 : decode cX4_looksForGaps 15 = .ok (.istore 8, 2) := sorry
theorem dX4_looksForGaps_17 : decode cX4_looksForGaps 17 = .ok (.iload 8, 2) := sorry
theorem dX4_looksForGaps_19 : decode cX4_looksForGaps 19 = .ok (.iload_n 2, 1) := sorry
theorem dX4_looksForGaps_20 : decode cX4_looksForGaps 20 = .ok (.if_icmp .gt 104, 3) := sorry
theorem dX4_looksForGaps_23 : decode cX4_looksForGaps 23 = .ok (.aload_n 0, 1) := sorry
theorem dX4_looksForGaps_24 : decode cX4_looksForGaps 24 = .ok (.iload 8, 2) := sorry
theorem dX4_looksForGaps_26 : decode cX4_looksForGaps 26 = .ok (.invokevirtual 246, 3) := sorry
theorem dX4_looksForGaps_29 : decode cX4_looksForGaps 29 = .ok (.ifCond .eq 31, 3) := sorry
theorem dX4_looksForGaps_32 : decode cX4_looksForGaps 32 = .ok (.iload 4, 2) := sorry
theorem dX4_looksForGaps_34 : decode cX4_looksForGaps 34 = .ok (.iconst (-1), 1) := sorry
theorem dX4_looksForGaps_35 : decode cX4_looksForGaps 35 = .ok (.if_icmp .eq 14, 3) := sorry
theorem dX4_looksForGaps_38 : decode cX4_looksForGaps 38 = .ok (.iload 5, 2) := sorry
theorem dX4_looksForGaps_40 : decode cX4_looksForGaps 40 = .ok (.iconst (-1), 1) := sorry
theorem dX4_looksForGaps_41 : decode cX4_looksForGaps 41 = .ok (.if_icmp .ne 8, 3) := sorry
theorem dX4_looksForGaps_44 : decode cX4_looksForGaps 44 = .ok (.iload 8, 2) := sorry
theorem dX4_looksForGaps_46 : decode cX4_looksForGaps 46 = .ok (.goto 5, 3) := sorry
theorem dX4_looksForGaps_49 : decode cX4_looksForGaps 49 = .ok (.iload 5, 2) := sorry
theorem dX4_looksForGaps_51 : decode cX4_looksForGaps 51 = .ok (.istore 5, 2) := sorry
theorem dX4_looksForGaps_53 : decode cX4_looksForGaps 53 = .ok (.iload 8, 2) := sorry
theorem dX4_looksForGaps_55 : decode cX4_looksForGaps 55 = .ok (.istore 6, 2) := sorry
theorem dX4_looksForGaps_57 : decode cX4_looksForGaps 57 = .ok (.goto 61, 3) := sorry
theorem dX4_looksForGaps_60 : decode cX4_looksForGaps 60 = .ok (.iload 6, 2) := sorry
theorem dX4_looksForGaps_62 : decode cX4_looksForGaps 62 = .ok (.iconst (-1), 1) := sorry
theorem dX4_looksForGaps_63 : decode cX4_looksForGaps 63 = .ok (.if_icmp .eq 55, 3) := sorry
theorem dX4_looksForGaps_66 : decode cX4_looksForGaps 66 = .ok (.aload_n 0, 1) := sorry
theorem dX4_looksForGaps_67 : decode cX4_looksForGaps 67 = .ok (.iload 8, 2) := sorry
theorem dX4_looksForGaps_69 : decode cX4_looksForGaps 69 = .ok (.iconst 1, 1) := sorry
theorem dX4_looksForGaps_70 : decode cX4_looksForGaps 70 = .ok (.isub, 1) := sorry
theorem dX4_looksForGaps_71 : decode cX4_looksForGaps 71 = .ok (.invokevirtual 234, 3) := sorry
theorem dX4_looksForGaps_74 : decode cX4_looksForGaps 74 = .ok (.ifCond .eq 44, 3) := sorry
theorem dX4_looksForGaps_77 : decode cX4_looksForGaps 77 = .ok (.aload_n 0, 1) := sorry
theorem dX4_looksForGaps_78 : decode cX4_looksForGaps 78 = .ok (.iload 8, 2) := sorry
theorem dX4_looksForGaps_80 : decode cX4_looksForGaps 80 = .ok (.invokevirtual 234, 3) := sorry
theorem dX4_looksForGaps_83 : decode cX4_looksForGaps 83 = .ok (.ifCond .ne 35, 3) := sorry
theorem dX4_looksForGaps_86 : decode cX4_looksForGaps 86 = .ok (.iload 8, 2) := sorry
theorem dX4_looksForGaps_88 : decode cX4_looksForGaps 88 = .ok (.istore 7, 2) := sorry
theorem dX4_looksForGaps_90 : decode cX4_looksForGaps 90 = .ok (.iload 4, 2) := sorry
theorem dX4_looksForGaps_92 : decode cX4_looksForGaps 92 = .ok (.iconst (-1), 1) := sorry
theorem dX4_looksForGaps_93 : decode cX4_looksForGaps 93 = .ok (.if_icmp .ne 8, 3) := sorry
theorem dX4_looksForGaps_96 : decode cX4_looksForGaps 96 = .ok (.iload 6, 2) := sorry
theorem dX4_looksForGaps_98 : decode cX4_looksForGaps 98 = .ok (.goto 4, 3) := sorry
theorem dX4_looksForGaps_101 : decode cX4_looksForGaps 101 = .ok (.iload_n 3, 1) := sorry
theorem dX4_looksForGaps_102 : decode cX4_looksForGaps 102 = .ok (.istore_n 3, 1) := sorry
theorem dX4_looksForGaps_103 : decode cX4_looksForGaps 103 = .ok (.iload 4, 2) := sorry
theorem dX4_looksForGaps_105 : decode cX4_looksForGaps 105 = .ok (.iconst (-1), 1) := sorry
theorem dX4_looksForGaps_106 : decode cX4_looksForGaps 106 = .ok (.if_icmp .ne 8, 3) := sorry
theorem dX4_looksForGaps_109 : decode cX4_looksForGaps 109 = .ok (.iload 8, 2) := sorry
theorem dX4_looksForGaps_111 : decode cX4_looksForGaps 111 = .ok (.goto 5, 3) := sorry
theorem dX4_looksForGaps_114 : decode cX4_looksForGaps 114 = .ok (.iload 4, 2) := sorry
theorem dX4_looksForGaps_116 : decode cX4_looksForGaps 116 = .ok (.istore 4, 2) := sorry
theorem dX4_looksForGaps_118 : decode cX4_looksForGaps 118 = .ok (.iinc 8 1, 3) := sorry
theorem dX4_looksForGaps_121 : decode cX4_looksForGaps 121 = .ok (.goto (-104), 3) := sorry
theorem dX4_looksForGaps_124 : decode cX4_looksForGaps 124 = .ok (.iload 5, 2) := sorry
theorem dX4_looksForGaps_126 : decode cX4_looksForGaps 126 = .ok (.iconst (-1), 1) := sorry
theorem dX4_looksForGaps_127 : decode cX4_looksForGaps 127 = .ok (.if_icmp .ne 9, 3) := sorry
theorem dX4_looksForGaps_130 : decode cX4_looksForGaps 130 = .ok (.aload_n 0, 1) := sorry
theorem dX4_looksForGaps_131 : decode cX4_looksForGaps 131 = .ok (.iconst 3, 1) := sorry
theorem dX4_looksForGaps_132 : decode cX4_looksForGaps 132 = .ok (.invokevirtual 240, 3) := sorry
theorem dX4_looksForGaps_135 : decode cX4_looksForGaps 135 = .ok (.ireturn, 1) := sorry
theorem dX4_looksForGaps_136 : decode cX4_looksForGaps 136 = .ok (.aload_n 0, 1) := sorry
theorem dX4_looksForGaps_137 : decode cX4_looksForGaps 137 = .ok (.getfield 7, 3) := sorry
theorem dX4_looksForGaps_140 : decode cX4_looksForGaps 140 = .ok (.bipush 12, 2) := sorry
theorem dX4_looksForGaps_142 : decode cX4_looksForGaps 142 = .ok (.iload 4, 2) := sorry
theorem dX4_looksForGaps_144 : decode cX4_looksForGaps 144 = .ok (.iload_n 3, 1) := sorry
theorem dX4_looksForGaps_145 : decode cX4_looksForGaps 145 = .ok (.isub, 1) := sorry
theorem dX4_looksForGaps_146 : decode cX4_looksForGaps 146 = .ok (.iastore, 1) := sorry
theorem dX4_looksForGaps_147 : decode cX4_looksForGaps 147 = .ok (.aload_n 0, 1) := sorry
theorem dX4_looksForGaps_148 : decode cX4_looksForGaps 148 = .ok (.getfield 7, 3) := sorry
theorem dX4_looksForGaps_151 : decode cX4_looksForGaps 151 = .ok (.bipush 11, 2) := sorry
theorem dX4_looksForGaps_153 : decode cX4_looksForGaps 153 = .ok (.iload 5, 2) := sorry
theorem dX4_looksForGaps_155 : decode cX4_looksForGaps 155 = .ok (.iload 4, 2) := sorry
theorem dX4_looksForGaps_157 : decode cX4_looksForGaps 157 = .ok (.isub, 1) := sorry
theorem dX4_looksForGaps_158 : decode cX4_looksForGaps 158 = .ok (.iastore, 1) := sorry
theorem dX4_looksForGaps_159 : decode cX4_looksForGaps 159 = .ok (.iload 7, 2) := sorry
theorem dX4_looksForGaps_161 : decode cX4_looksForGaps 161 = .ok (.istore 8, 2) := sorry
theorem dX4_looksForGaps_163 : decode cX4_looksForGaps 163 = .ok (.iload 8, 2) := sorry
theorem dX4_looksForGaps_165 : decode cX4_looksForGaps 165 = .ok (.aload_n 0, 1) := sorry
theorem dX4_looksForGaps_166 : decode cX4_looksForGaps 166 = .ok (.getfield 7, 3) := sorry
theorem dX4_looksForGaps_169 : decode cX4_looksForGaps 169 = .ok (.iconst 1, 1) := sorry
theorem dX4_looksForGaps_170 : decode cX4_looksForGaps 170 = .ok (.iaload, 1) := sorry
theorem dX4_looksForGaps_171 : decode cX4_looksForGaps 171 = .ok (.if_icmp .ge 15, 3) := sorry
theorem dX4_looksForGaps_174 : decode cX4_looksForGaps 174 = .ok (.iload 8, 2) := sorry
theorem dX4_looksForGaps_176 : decode cX4_looksForGaps 176 = .ok (.aload_n 0, 1) := sorry
theorem dX4_looksForGaps_177 : decode cX4_looksForGaps 177 = .ok (.invokevirtual 249, 3) := sorry
theorem dX4_looksForGaps_180 : decode cX4_looksForGaps 180 = .ok (.iadd, 1) := sorry
theorem dX4_looksForGaps_181 : decode cX4_looksForGaps 181 = .ok (.istore 8, 2) := sorry
theorem dX4_looksForGaps_183 : decode cX4_looksForGaps 183 = .ok (.goto (-20), 3) := sorry
theorem dX4_looksForGaps_186 : decode cX4_looksForGaps 186 = .ok (.aload_n 0, 1) := sorry
theorem dX4_looksForGaps_187 : decode cX4_looksForGaps 187 = .ok (.getfield 7, 3) := sorry
theorem dX4_looksForGaps_190 : decode cX4_looksForGaps 190 = .ok (.bipush 14, 2) := sorry
theorem dX4_looksForGaps_192 : decode cX4_looksForGaps 192 = .ok (.iload 8, 2) := sorry
theorem dX4_looksForGaps_194 : decode cX4_looksForGaps 194 = .ok (.iastore, 1) := sorry
theorem dX4_looksForGaps_195 : decode cX4_looksForGaps 195 = .ok (.aload_n 0, 1) := sorry
theorem dX4_looksForGaps_196 : decode cX4_looksForGaps 196 = .ok (.iload 8, 2) := sorry
theorem dX4_looksForGaps_198 : decode cX4_looksForGaps 198 = .ok (.invokevirtual 223, 3) := sorry
theorem dX4_looksForGaps_201 : decode cX4_looksForGaps 201 = .ok (.aload_n 0, 1) := sorry
theorem dX4_looksForGaps_202 : decode cX4_looksForGaps 202 = .ok (.getfield 7, 3) := sorry
theorem dX4_looksForGaps_205 : decode cX4_looksForGaps 205 = .ok (.bipush 9, 2) := sorry
theorem dX4_looksForGaps_207 : decode cX4_looksForGaps 207 = .ok (.iconst 1, 1) := sorry
theorem dX4_looksForGaps_208 : decode cX4_looksForGaps 208 = .ok (.iastore, 1) := sorry
theorem dX4_looksForGaps_209 : decode cX4_looksForGaps 209 = .ok (.aload_n 0, 1) := sorry
theorem dX4_looksForGaps_210 : decode cX4_looksForGaps 210 = .ok (.getfield 7, 3) := sorry
theorem dX4_looksForGaps_213 : decode cX4_looksForGaps 213 = .ok (.bipush 15, 2) := sorry
theorem dX4_looksForGaps_215 : decode cX4_looksForGaps 215 = .ok (.iconst 0, 1) := sorry
theorem dX4_looksForGaps_216 : decode cX4_looksForGaps 216 = .ok (.iastore, 1) := sorry
theorem dX4_looksForGaps_217 : decode cX4_looksForGaps 217 = .ok (.iconst 0, 1) := sorry
theorem dX4_looksForGaps_218 : decode cX4_looksForGaps 218 = .ok (.ireturn, 1) := sorry
abbrev cX4_beginsGap : ByteArray := prog_16_method_48_code
def yX4_beginsGap : MethodName := ⟨RX4, "beginsGap", "(I)Z"⟩
def dkwX4_beginsGap_0 : List UInt8 := [42, 27, 182, 0, 234, 153, 0, 17, 42, 27, 4, 100, 182, 0, 234, 154, 0, 7, 4, 167, 0, 4, 3, 172]
abbrev dktX4_beginsGap_0 : List UInt8 := dkwX4_beginsGap_0 ++ []
theorem dksX4_beginsGap_0 : cX4_beginsGap.data.toList.drop 0 = dktX4_beginsGap_0 := sorry
theorem dX4_beginsGap_0 : decode cX4_beginsGap 0 = .ok (.aload_n 0, 1) := sorry
theorem dX4_beginsGap_1 : decode cX4_beginsGap 1 = .ok (.iload_n 1, 1) := sorry
theorem dX4_beginsGap_2 : decode cX4_beginsGap 2 = .ok (.invokevirtual 234, 3) := sorry
theorem dX4_beginsGap_5 : decode cX4_beginsGap 5 = .ok (.ifCond .eq 17, 3) := sorry
theorem dX4_beginsGap_8 : decode cX4_beginsGap 8 = .ok (.aload_n 0, 1) := sorry
theorem dX4_beginsGap_9 : decode cX4_beginsGap 9 = .ok (.iload_n 1, 1) := sorry
theorem dX4_beginsGap_10 : decode cX4_beginsGap 10 = .ok (.iconst 1, 1) := sorry
theorem dX4_beginsGap_11 : decode cX4_beginsGap 11 = .ok (.isub, 1) := sorry
theorem dX4_beginsGap_12 : decode cX4_beginsGap 12 = .ok (.invokevirtual 234, 3) := sorry
theorem dX4_beginsGap_15 : decode cX4_beginsGap 15 = .ok (.ifCond .ne 7, 3) := sorry
theorem dX4_beginsGap_18 : decode cX4_beginsGap 18 = .ok (.iconst 1, 1) := sorry
theorem dX4_beginsGap_19 : decode cX4_beginsGap 19 = .ok (.goto 4, 3) := sorry
theorem dX4_beginsGap_22 : decode cX4_beginsGap 22 = .ok (.iconst 0, 1) := sorry
theorem dX4_beginsGap_23 : decode cX4_beginsGap 23 = .ok (.ireturn, 1) := sorry
abbrev cX4_isLikeGaps : ByteArray := prog_16_method_47_code
def yX4_isLikeGaps : MethodName := ⟨RX4, "isLikeGaps", "(I)Z"⟩
def dkwX4_isLikeGaps_1 : List UInt8 := [4, 167, 0, 4, 3, 172]
abbrev dktX4_isLikeGaps_1 : List UInt8 := dkwX4_isLikeGaps_1 ++ []
def dkwX4_isLikeGaps_0 : List UInt8 := [42, 27, 182, 0, 230, 42, 180, 0, 7, 16, 13, 46, 4, 160, 0, 7, 4, 167, 0, 4, 3, 160, 0, 7]
abbrev dktX4_isLikeGaps_0 : List UInt8 := dkwX4_isLikeGaps_0 ++ dktX4_isLikeGaps_1
theorem dksX4_isLikeGaps_0 : cX4_isLikeGaps.data.toList.drop 0 = dktX4_isLikeGaps_0 := sorry
theorem dksX4_isLikeGaps_1 : cX4_isLikeGaps.data.toList.drop 24 = dktX4_isLikeGaps_1 := sorry
theorem dX4_isLikeGaps_0 : decode cX4_isLikeGaps 0 = .ok (.aload_n 0, 1) := sorry
theorem dX4_isLikeGaps_1 : decode cX4_isLikeGaps 1 = .ok (.iload_n 1, 1) := sorry
theorem dX4_isLikeGaps_2 : decode cX4_isLikeGaps 2 = .ok (.invokevirtual 230, 3) := sorry
theorem dX4_isLikeGaps_5 : decode cX4_isLikeGaps 5 = .ok (.aload_n 0, 1) := sorry
theorem dX4_isLikeGaps_6 : decode cX4_isLikeGaps 6 = .ok (.getfield 7, 3) := sorry
theorem dX4_isLikeGaps_9 : decode cX4_isLikeGaps 9 = .ok (.bipush 13, 2) := sorry
theorem dX4_isLikeGaps_11 : decode cX4_isLikeGaps 11 = .ok (.iaload, 1) := sorry
theorem dX4_isLikeGaps_12 : decode cX4_isLikeGaps 12 = .ok (.iconst 1, 1) := sorry
theorem dX4_isLikeGaps_13 : decode cX4_isLikeGaps 13 = .ok (.if_icmp .ne 7, 3) := sorry
theorem dX4_isLikeGaps_16 : decode cX4_isLikeGaps 16 = .ok (.iconst 1, 1) := sorry
theorem dX4_isLikeGaps_17 : decode cX4_isLikeGaps 17 = .ok (.goto 4, 3) := sorry
theorem dX4_isLikeGaps_20 : decode cX4_isLikeGaps 20 = .ok (.iconst 0, 1) := sorry
theorem dX4_isLikeGaps_21 : decode cX4_isLikeGaps 21 = .ok (.if_icmp .ne 7, 3) := sorry
theorem dX4_isLikeGaps_24 : decode cX4_isLikeGaps 24 = .ok (.iconst 1, 1) := sorry
theorem dX4_isLikeGaps_25 : decode cX4_isLikeGaps 25 = .ok (.goto 4, 3) := sorry
theorem dX4_isLikeGaps_28 : decode cX4_isLikeGaps 28 = .ok (.iconst 0, 1) := sorry
theorem dX4_isLikeGaps_29 : decode cX4_isLikeGaps 29 = .ok (.ireturn, 1) := sorry
abbrev cX4_pitch : ByteArray := prog_16_method_52_code
def yX4_pitch : MethodName := ⟨RX4, "pitch", "()I"⟩
def dkwX4_pitch_0 : List UInt8 := [42, 180, 0, 7, 16, 11, 46, 42, 180, 0, 7, 16, 12, 46, 96, 172]
abbrev dktX4_pitch_0 : List UInt8 := dkwX4_pitch_0 ++ []
theorem dksX4_pitch_0 : cX4_pitch.data.toList.drop 0 = dktX4_pitch_0 := sorry
theorem dX4_pitch_0 : decode cX4_pitch 0 = .ok (.aload_n 0, 1) := sorry
theorem dX4_pitch_1 : decode cX4_pitch 1 = .ok (.getfield 7, 3) := sorry
theorem dX4_pitch_4 : decode cX4_pitch 4 = .ok (.bipush 11, 2) := sorry
theorem dX4_pitch_6 : decode cX4_pitch 6 = .ok (.iaload, 1) := sorry
theorem dX4_pitch_7 : decode cX4_pitch 7 = .ok (.aload_n 0, 1) := sorry
theorem dX4_pitch_8 : decode cX4_pitch 8 = .ok (.getfield 7, 3) := sorry
theorem dX4_pitch_11 : decode cX4_pitch 11 = .ok (.bipush 12, 2) := sorry
theorem dX4_pitch_13 : decode cX4_pitch 13 = .ok (.iaload, 1) := sorry
theorem dX4_pitch_14 : decode cX4_pitch 14 = .ok (.iadd, 1) := sorry
theorem dX4_pitch_15 : decode cX4_pitch 15 = .ok (.ireturn, 1) := sorry
abbrev cX4_isReady : ByteArray := prog_16_method_54_code
def yX4_isReady : MethodName := ⟨RX4, "isReady", "()Z"⟩
def dkwX4_isReady_0 : List UInt8 := [42, 3, 181, 0, 92, 42, 182, 0, 227, 172]
abbrev dktX4_isReady_0 : List UInt8 := dkwX4_isReady_0 ++ []
theorem dksX4_isReady_0 : cX4_isReady.data.toList.drop 0 = dktX4_isReady_0 := sorry
theorem dX4_isReady_0 : decode cX4_isReady 0 = .ok (.aload_n 0, 1) := sorry
theorem dX4_isReady_1 : decode cX4_isReady 1 = .ok (.iconst 0, 1) := sorry
theorem dX4_isReady_2 : decode cX4_isReady 2 = .ok (.putfield 92, 3) := sorry
theorem dX4_isReady_5 : decode cX4_isReady 5 = .ok (.aload_n 0, 1) := sorry
theorem dX4_isReady_6 : decode cX4_isReady 6 = .ok (.invokevirtual 227, 3) := sorry
theorem dX4_isReady_9 : decode cX4_isReady 9 = .ok (.ireturn, 1) := sorry
abbrev cX4_learned : ByteArray := prog_16_method_55_code
def yX4_learned : MethodName := ⟨RX4, "learned", "(I)I"⟩
def dkwX4_learned_2 : List UInt8 := [46, 172]
abbrev dktX4_learned_2 : List UInt8 := dkwX4_learned_2 ++ []
def dkwX4_learned_1 : List UInt8 := [167, 0, 4, 3, 181, 0, 92, 42, 180, 0, 92, 158, 0, 5, 3, 172, 42, 180, 0, 7, 16, 10, 27, 96]
abbrev dktX4_learned_1 : List UInt8 := dkwX4_learned_1 ++ dktX4_learned_2
def dkwX4_learned_0 : List UInt8 := [42, 42, 182, 0, 227, 154, 0, 7, 4, 167, 0, 17, 27, 3, 7, 184, 0, 115, 154, 0, 7, 5]
abbrev dktX4_learned_0 : List UInt8 := dkwX4_learned_0 ++ dktX4_learned_1
theorem dksX4_learned_0 : cX4_learned.data.toList.drop 0 = dktX4_learned_0 := sorry
theorem dksX4_learned_1 : cX4_learned.data.toList.drop 22 = dktX4_learned_1 := sorry
theorem dksX4_learned_2 : cX4_learned.data.toList.drop 46 = dktX4_learned_2 := sorry
theorem dX4_learned_0 : decode cX4_learned 0 = .ok (.aload_n 0, 1) := sorry
theorem dX4_learned_1 : decode cX4_learned 1 = .ok (.aload_n 0, 1) := sorry
theorem dX4_learned_2 : decode cX4_learned 2 = .ok (.invokevirtual 227, 3) := sorry
theorem dX4_learned_5 : decode cX4_learned 5 = .ok (.ifCond .ne 7, 3) := sorry
theorem dX4_learned_8 : decode cX4_learned 8 = .ok (.iconst 1, 1) := sorry
theorem dX4_learned_9 : decode cX4_learned 9 = .ok (.goto 17, 3) := sorry
theorem dX4_learned_12 : decode cX4_learned 12 = .ok (.iload_n 1, 1) := sorry
theorem dX4_learned_13 : decode cX4_learned 13 = .ok (.iconst 0, 1) := sorry
theorem dX4_learned_14 : decode cX4_learned 14 = .ok (.iconst 4, 1) := sorry
theorem dX4_learned_15 : decode cX4_learned 15 = .ok (.invokestatic 115, 3) := sorry
theorem dX4_learned_18 : decode cX4_learned 18 = .ok (.ifCond .ne 7, 3) := sorry
theorem dX4_learned_21 : decode cX4_learned 21 = .ok (.iconst 2, 1) := sorry
theorem dX4_learned_22 : decode cX4_learned 22 = .ok (.goto 4, 3) := sorry
theorem dX4_learned_25 : decode cX4_learned 25 = .ok (.iconst 0, 1) := sorry
theorem dX4_learned_26 : decode cX4_learned 26 = .ok (.putfield 92, 3) := sorry
theorem dX4_learned_29 : decode cX4_learned 29 = .ok (.aload_n 0, 1) := sorry
theorem dX4_learned_30 : decode cX4_learned 30 = .ok (.getfield 92, 3) := sorry
theorem dX4_learned_33 : decode cX4_learned 33 = .ok (.ifCond .le 5, 3) := sorry
theorem dX4_learned_36 : decode cX4_learned 36 = .ok (.iconst 0, 1) := sorry
theorem dX4_learned_37 : decode cX4_learned 37 = .ok (.ireturn, 1) := sorry
theorem dX4_learned_38 : decode cX4_learned 38 = .ok (.aload_n 0, 1) := sorry
theorem dX4_learned_39 : decode cX4_learned 39 = .ok (.getfield 7, 3) := sorry
theorem dX4_learned_42 : decode cX4_learned 42 = .ok (.bipush 10, 2) := sorry
theorem dX4_learned_44 : decode cX4_learned 44 = .ok (.iload_n 1, 1) := sorry
theorem dX4_learned_45 : decode cX4_learned 45 = .ok (.iadd, 1) := sorry
theorem dX4_learned_46 : decode cX4_learned 46 = .ok (.iaload, 1) := sorry
theorem dX4_learned_47 : decode cX4_learned 47 = .ok (.ireturn, 1) := sorry
abbrev cX4_gapsSeen : ByteArray := prog_16_method_56_code
def yX4_gapsSeen : MethodName := ⟨RX4, "gapsSeen", "()I"⟩
def dkwX4_gapsSeen_2 : List UInt8 := [167, 0, 4, 3, 96, 60, 132, 2, 1, 167, 255, 220, 27, 172]
abbrev dktX4_gapsSeen_2 : List UInt8 := dkwX4_gapsSeen_2 ++ []
def dkwX4_gapsSeen_1 : List UInt8 := [154, 0, 35, 28, 42, 180, 0, 7, 5, 46, 163, 0, 25, 27, 42, 28, 182, 0, 246, 153, 0, 7, 4]
abbrev dktX4_gapsSeen_1 : List UInt8 := dkwX4_gapsSeen_1 ++ dktX4_gapsSeen_2
def dkwX4_gapsSeen_0 : List UInt8 := [42, 42, 182, 0, 227, 153, 0, 7, 3, 167, 0, 4, 4, 181, 0, 92, 3, 60, 3, 61, 42, 180, 0, 92]
abbrev dktX4_gapsSeen_0 : List UInt8 := dkwX4_gapsSeen_0 ++ dktX4_gapsSeen_1
theorem dksX4_gapsSeen_0 : cX4_gapsSeen.data.toList.drop 0 = dktX4_gapsSeen_0 := sorry
theorem dksX4_gapsSeen_1 : cX4_gapsSeen.data.toList.drop 24 = dktX4_gapsSeen_1 := sorry
theorem dksX4_gapsSeen_2 : cX4_gapsSeen.data.toList.drop 47 = dktX4_gapsSeen_2 := sorry
theorem dX4_gapsSeen_0 : decode cX4_gapsSeen 0 = .ok (.aload_n 0, 1) := sorry
theorem dX4_gapsSeen_1 : decode cX4_gapsSeen 1 = .ok (.aload_n 0, 1) := sorry
theorem dX4_gapsSeen_2 : decode cX4_gapsSeen 2 = .ok (.invokevirtual 227, 3) := sorry
theorem dX4_gapsSeen_5 : decode cX4_gapsSeen 5 = .ok (.ifCond .eq 7, 3) := sorry
theorem dX4_gapsSeen_8 : decode cX4_gapsSeen 8 = .ok (.iconst 0, 1) := sorry
theorem dX4_gapsSeen_9 : decode cX4_gapsSeen 9 = .ok (.goto 4, 3) := sorry
theorem dX4_gapsSeen_12 : decode cX4_gapsSeen 12 = .ok (.iconst 1, 1) := sorry
theorem dX4_gapsSeen_13 : decode cX4_gapsSeen 13 = .ok (.putfield 92, 3) := sorry
theorem dX4_gapsSeen_16 : decode cX4_gapsSeen 16 = .ok (.iconst 0, 1) := sorry
theorem dX4_gapsSeen_17 : decode cX4_gapsSeen 17 = .ok (.istore_n 1, 1) := sorry
theorem dX4_gapsSeen_18 : decode cX4_gapsSeen 18 = .ok (.iconst 0, 1) := sorry
theorem dX4_gapsSeen_19 : decode cX4_gapsSeen 19 = .ok (.istore_n 2, 1) := sorry
theorem dX4_gapsSeen_20 : decode cX4_gapsSeen 20 = .ok (.aload_n 0, 1) := sorry
theorem dX4_gapsSeen_21 : decode cX4_gapsSeen 21 = .ok (.getfield 92, 3) := sorry
theorem dX4_gapsSeen_24 : decode cX4_gapsSeen 24 = .ok (.ifCond .ne 35, 3) := sorry
theorem dX4_gapsSeen_27 : decode cX4_gapsSeen 27 = .ok (.iload_n 2, 1) := sorry
theorem dX4_gapsSeen_28 : decode cX4_gapsSeen 28 = .ok (.aload_n 0, 1) := sorry
theorem dX4_gapsSeen_29 : decode cX4_gapsSeen 29 = .ok (.getfield 7, 3) := sorry
theorem dX4_gapsSeen_32 : decode cX4_gapsSeen 32 = .ok (.iconst 2, 1) := sorry
theorem dX4_gapsSeen_33 : decode cX4_gapsSeen 33 = .ok (.iaload, 1) := sorry
theorem dX4_gapsSeen_34 : decode cX4_gapsSeen 34 = .ok (.if_icmp .gt 25, 3) := sorry
theorem dX4_gapsSeen_37 : decode cX4_gapsSeen 37 = .ok (.iload_n 1, 1) := sorry
theorem dX4_gapsSeen_38 : decode cX4_gapsSeen 38 = .ok (.aload_n 0, 1) := sorry
theorem dX4_gapsSeen_39 : decode cX4_gapsSeen 39 = .ok (.iload_n 2, 1) := sorry
theorem dX4_gapsSeen_40 : decode cX4_gapsSeen 40 = .ok (.invokevirtual 246, 3) := sorry
theorem dX4_gapsSeen_43 : decode cX4_gapsSeen 43 = .ok (.ifCond .eq 7, 3) := sorry
theorem dX4_gapsSeen_46 : decode cX4_gapsSeen 46 = .ok (.iconst 1, 1) := sorry
theorem dX4_gapsSeen_47 : decode cX4_gapsSeen 47 = .ok (.goto 4, 3) := sorry
theorem dX4_gapsSeen_50 : decode cX4_gapsSeen 50 = .ok (.iconst 0, 1) := sorry
theorem dX4_gapsSeen_51 : decode cX4_gapsSeen 51 = .ok (.iadd, 1) := sorry
theorem dX4_gapsSeen_52 : decode cX4_gapsSeen 52 = .ok (.istore_n 1, 1) := sorry
theorem dX4_gapsSeen_53 : decode cX4_gapsSeen 53 = .ok (.iinc 2 1, 3) := sorry
theorem dX4_gapsSeen_56 : decode cX4_gapsSeen 56 = .ok (.goto (-36), 3) := sorry
theorem dX4_gapsSeen_59 : decode cX4_gapsSeen 59 = .ok (.iload_n 1, 1) := sorry
theorem dX4_gapsSeen_60 : decode cX4_gapsSeen 60 = .ok (.ireturn, 1) := sorry
abbrev cX4_seenTo : ByteArray := prog_16_method_57_code
def yX4_seenTo : MethodName := ⟨RX4, "seenTo", "()I"⟩
def dkwX4_seenTo_1 : List UInt8 := [167, 0, 9, 42, 180, 0, 7, 5, 46, 172]
abbrev dktX4_seenTo_1 : List UInt8 := dkwX4_seenTo_1 ++ []
def dkwX4_seenTo_0 : List UInt8 := [42, 42, 182, 0, 216, 153, 0, 7, 3, 167, 0, 4, 4, 181, 0, 92, 42, 180, 0, 92, 158, 0, 7, 3]
abbrev dktX4_seenTo_0 : List UInt8 := dkwX4_seenTo_0 ++ dktX4_seenTo_1
theorem dksX4_seenTo_0 : cX4_seenTo.data.toList.drop 0 = dktX4_seenTo_0 := sorry
theorem dksX4_seenTo_1 : cX4_seenTo.data.toList.drop 24 = dktX4_seenTo_1 := sorry
theorem dX4_seenTo_0 : decode cX4_seenTo 0 = .ok (.aload_n 0, 1) := sorry
theorem dX4_seenTo_1 : decode cX4_seenTo 1 = .ok (.aload_n 0, 1) := sorry
theorem dX4_seenTo_2 : decode cX4_seenTo 2 = .ok (.invokevirtual 216, 3) := sorry
theorem dX4_seenTo_5 : decode cX4_seenTo 5 = .ok (.ifCond .eq 7, 3) := sorry
theorem dX4_seenTo_8 : decode cX4_seenTo 8 = .ok (.iconst 0, 1) := sorry
theorem dX4_seenTo_9 : decode cX4_seenTo 9 = .ok (.goto 4, 3) := sorry
theorem dX4_seenTo_12 : decode cX4_seenTo 12 = .ok (.iconst 1, 1) := sorry
theorem dX4_seenTo_13 : decode cX4_seenTo 13 = .ok (.putfield 92, 3) := sorry
theorem dX4_seenTo_16 : decode cX4_seenTo 16 = .ok (.aload_n 0, 1) := sorry
theorem dX4_seenTo_17 : decode cX4_seenTo 17 = .ok (.getfield 92, 3) := sorry
theorem dX4_seenTo_20 : decode cX4_seenTo 20 = .ok (.ifCond .le 7, 3) := sorry
theorem dX4_seenTo_23 : decode cX4_seenTo 23 = .ok (.iconst 0, 1) := sorry
theorem dX4_seenTo_24 : decode cX4_seenTo 24 = .ok (.goto 9, 3) := sorry
theorem dX4_seenTo_27 : decode cX4_seenTo 27 = .ok (.aload_n 0, 1) := sorry
theorem dX4_seenTo_28 : decode cX4_seenTo 28 = .ok (.getfield 7, 3) := sorry
theorem dX4_seenTo_31 : decode cX4_seenTo 31 = .ok (.iconst 2, 1) := sorry
theorem dX4_seenTo_32 : decode cX4_seenTo 32 = .ok (.iaload, 1) := sorry
theorem dX4_seenTo_33 : decode cX4_seenTo 33 = .ok (.ireturn, 1) := sorry
abbrev cX4_backfeed : ByteArray := prog_16_method_58_code
def yX4_backfeed : MethodName := ⟨RX4, "backfeed", "()I"⟩
def dkwX4_backfeed_1 : List UInt8 := [167, 0, 21, 3, 42, 180, 0, 7, 4, 46, 42, 180, 0, 7, 16, 14, 46, 100, 184, 0, 210, 172]
abbrev dktX4_backfeed_1 : List UInt8 := dkwX4_backfeed_1 ++ []
def dkwX4_backfeed_0 : List UInt8 := [42, 42, 182, 0, 227, 153, 0, 7, 3, 167, 0, 4, 4, 181, 0, 92, 42, 180, 0, 92, 158, 0, 7, 3]
abbrev dktX4_backfeed_0 : List UInt8 := dkwX4_backfeed_0 ++ dktX4_backfeed_1
theorem dksX4_backfeed_0 : cX4_backfeed.data.toList.drop 0 = dktX4_backfeed_0 := sorry
theorem dksX4_backfeed_1 : cX4_backfeed.data.toList.drop 24 = dktX4_backfeed_1 := sorry
theorem dX4_backfeed_0 : decode cX4_backfeed 0 = .ok (.aload_n 0, 1) := sorry
theorem dX4_backfeed_1 : decode cX4_backfeed 1 = .ok (.aload_n 0, 1) := sorry
theorem dX4_backfeed_2 : decode cX4_backfeed 2 = .ok (.invokevirtual 227, 3) := sorry
theorem dX4_backfeed_5 : decode cX4_backfeed 5 = .ok (.ifCond .eq 7, 3) := sorry
theorem dX4_backfeed_8 : decode cX4_backfeed 8 = .ok (.iconst 0, 1) := sorry
theorem dX4_backfeed_9 : decode cX4_backfeed 9 = .ok (.goto 4, 3) := sorry
theorem dX4_backfeed_12 : decode cX4_backfeed 12 = .ok (.iconst 1, 1) := sorry
theorem dX4_backfeed_13 : decode cX4_backfeed 13 = .ok (.putfield 92, 3) := sorry
theorem dX4_backfeed_16 : decode cX4_backfeed 16 = .ok (.aload_n 0, 1) := sorry
theorem dX4_backfeed_17 : decode cX4_backfeed 17 = .ok (.getfield 92, 3) := sorry
theorem dX4_backfeed_20 : decode cX4_backfeed 20 = .ok (.ifCond .le 7, 3) := sorry
theorem dX4_backfeed_23 : decode cX4_backfeed 23 = .ok (.iconst 0, 1) := sorry
theorem dX4_backfeed_24 : decode cX4_backfeed 24 = .ok (.goto 21, 3) := sorry
theorem dX4_backfeed_27 : decode cX4_backfeed 27 = .ok (.iconst 0, 1) := sorry
theorem dX4_backfeed_28 : decode cX4_backfeed 28 = .ok (.aload_n 0, 1) := sorry
theorem dX4_backfeed_29 : decode cX4_backfeed 29 = .ok (.getfield 7, 3) := sorry
theorem dX4_backfeed_32 : decode cX4_backfeed 32 = .ok (.iconst 1, 1) := sorry
theorem dX4_backfeed_33 : decode cX4_backfeed 33 = .ok (.iaload, 1) := sorry
theorem dX4_backfeed_34 : decode cX4_backfeed 34 = .ok (.aload_n 0, 1) := sorry
theorem dX4_backfeed_35 : decode cX4_backfeed 35 = .ok (.getfield 7, 3) := sorry
theorem dX4_backfeed_38 : decode cX4_backfeed 38 = .ok (.bipush 14, 2) := sorry
theorem dX4_backfeed_40 : decode cX4_backfeed 40 = .ok (.iaload, 1) := sorry
theorem dX4_backfeed_41 : decode cX4_backfeed 41 = .ok (.isub, 1) := sorry
theorem dX4_backfeed_42 : decode cX4_backfeed 42 = .ok (.invokestatic 210, 3) := sorry
theorem dX4_backfeed_45 : decode cX4_backfeed 45 = .ok (.ireturn, 1) := sorry
abbrev cX4_nextGap : ByteArray := prog_16_method_59_code
def yX4_nextGap : MethodName := ⟨RX4, "nextGap", "(I)I"⟩
def dkwX4_nextGap_2 : List UInt8 := [28, 172, 132, 2, 1, 167, 255, 226, 42, 180, 0, 92, 158, 0, 7, 3, 167, 0, 4, 2, 172]
abbrev dktX4_nextGap_2 : List UInt8 := dkwX4_nextGap_2 ++ []
def dkwX4_nextGap_1 : List UInt8 := [180, 0, 92, 154, 0, 29, 28, 42, 180, 0, 7, 5, 46, 163, 0, 19, 42, 28, 182, 0, 246, 153, 0, 5]
abbrev dktX4_nextGap_1 : List UInt8 := dkwX4_nextGap_1 ++ dktX4_nextGap_2
def dkwX4_nextGap_0 : List UInt8 := [42, 42, 182, 0, 227, 153, 0, 7, 3, 167, 0, 4, 4, 181, 0, 92, 3, 27, 184, 0, 210, 61, 42]
abbrev dktX4_nextGap_0 : List UInt8 := dkwX4_nextGap_0 ++ dktX4_nextGap_1
theorem dksX4_nextGap_0 : cX4_nextGap.data.toList.drop 0 = dktX4_nextGap_0 := sorry
theorem dksX4_nextGap_1 : cX4_nextGap.data.toList.drop 23 = dktX4_nextGap_1 := sorry
theorem dksX4_nextGap_2 : cX4_nextGap.data.toList.drop 47 = dktX4_nextGap_2 := sorry
theorem dX4_nextGap_0 : decode cX4_nextGap 0 = .ok (.aload_n 0, 1) := sorry
theorem dX4_nextGap_1 : decode cX4_nextGap 1 = .ok (.aload_n 0, 1) := sorry
theorem dX4_nextGap_2 : decode cX4_nextGap 2 = .ok (.invokevirtual 227, 3) := sorry
theorem dX4_nextGap_5 : decode cX4_nextGap 5 = .ok (.ifCond .eq 7, 3) := sorry
theorem dX4_nextGap_8 : decode cX4_nextGap 8 = .ok (.iconst 0, 1) := sorry
theorem dX4_nextGap_9 : decode cX4_nextGap 9 = .ok (.goto 4, 3) := sorry
theorem dX4_nextGap_12 : decode cX4_nextGap 12 = .ok (.iconst 1, 1) := sorry
theorem dX4_nextGap_13 : decode cX4_nextGap 13 = .ok (.putfield 92, 3) := sorry
theorem dX4_nextGap_16 : decode cX4_nextGap 16 = .ok (.iconst 0, 1) := sorry
theorem dX4_nextGap_17 : decode cX4_nextGap 17 = .ok (.iload_n 1, 1) := sorry
theorem dX4_nextGap_18 : decode cX4_nextGap 18 = .ok (.invokestatic 210, 3) := sorry
theorem dX4_nextGap_21 : decode cX4_nextGap 21 = .ok (.istore_n 2, 1) := sorry
theorem dX4_nextGap_22 : decode cX4_nextGap 22 = .ok (.aload_n 0, 1) := sorry
theorem dX4_nextGap_23 : decode cX4_nextGap 23 = .ok (.getfield 92, 3) := sorry
theorem dX4_nextGap_26 : decode cX4_nextGap 26 = .ok (.ifCond .ne 29, 3) := sorry
theorem dX4_nextGap_29 : decode cX4_nextGap 29 = .ok (.iload_n 2, 1) := sorry
theorem dX4_nextGap_30 : decode cX4_nextGap 30 = .ok (.aload_n 0, 1) := sorry
theorem dX4_nextGap_31 : decode cX4_nextGap 31 = .ok (.getfield 7, 3) := sorry
theorem dX4_nextGap_34 : decode cX4_nextGap 34 = .ok (.iconst 2, 1) := sorry
theorem dX4_nextGap_35 : decode cX4_nextGap 35 = .ok (.iaload, 1) := sorry
theorem dX4_nextGap_36 : decode cX4_nextGap 36 = .ok (.if_icmp .gt 19, 3) := sorry
theorem dX4_nextGap_39 : decode cX4_nextGap 39 = .ok (.aload_n 0, 1) := sorry
theorem dX4_nextGap_40 : decode cX4_nextGap 40 = .ok (.iload_n 2, 1) := sorry
theorem dX4_nextGap_41 : decode cX4_nextGap 41 = .ok (.invokevirtual 246, 3) := sorry
theorem dX4_nextGap_44 : decode cX4_nextGap 44 = .ok (.ifCond .eq 5, 3) := sorry
theorem dX4_nextGap_47 : decode cX4_nextGap 47 = .ok (.iload_n 2, 1) := sorry
theorem dX4_nextGap_48 : decode cX4_nextGap 48 = .ok (.ireturn, 1) := sorry
theorem dX4_nextGap_49 : decode cX4_nextGap 49 = .ok (.iinc 2 1, 3) := sorry
theorem dX4_nextGap_52 : decode cX4_nextGap 52 = .ok (.goto (-30), 3) := sorry
theorem dX4_nextGap_55 : decode cX4_nextGap 55 = .ok (.aload_n 0, 1) := sorry
theorem dX4_nextGap_56 : decode cX4_nextGap 56 = .ok (.getfield 92, 3) := sorry
theorem dX4_nextGap_59 : decode cX4_nextGap 59 = .ok (.ifCond .le 7, 3) := sorry
theorem dX4_nextGap_62 : decode cX4_nextGap 62 = .ok (.iconst 0, 1) := sorry
theorem dX4_nextGap_63 : decode cX4_nextGap 63 = .ok (.goto 4, 3) := sorry
theorem dX4_nextGap_66 : decode cX4_nextGap 66 = .ok (.iconst (-1), 1) := sorry
theorem dX4_nextGap_67 : decode cX4_nextGap 67 = .ok (.ireturn, 1) := sorry
abbrev cX4_lastShift : ByteArray := prog_16_method_60_code
def yX4_lastShift : MethodName := ⟨RX4, "lastShift", "()I"⟩
def dkwX4_lastShift_0 : List UInt8 := [42, 3, 181, 0, 92, 42, 180, 0, 7, 16, 17, 46, 172]
abbrev dktX4_lastShift_0 : List UInt8 := dkwX4_lastShift_0 ++ []
theorem dksX4_lastShift_0 : cX4_lastShift.data.toList.drop 0 = dktX4_lastShift_0 := sorry
theorem dX4_lastShift_0 : decode cX4_lastShift 0 = .ok (.aload_n 0, 1) := sorry
theorem dX4_lastShift_1 : decode cX4_lastShift 1 = .ok (.iconst 0, 1) := sorry
theorem dX4_lastShift_2 : decode cX4_lastShift 2 = .ok (.putfield 92, 3) := sorry
theorem dX4_lastShift_5 : decode cX4_lastShift 5 = .ok (.aload_n 0, 1) := sorry
theorem dX4_lastShift_6 : decode cX4_lastShift 6 = .ok (.getfield 7, 3) := sorry
theorem dX4_lastShift_9 : decode cX4_lastShift 9 = .ok (.bipush 17, 2) := sorry
theorem dX4_lastShift_11 : decode cX4_lastShift 11 = .ok (.iaload, 1) := sorry
theorem dX4_lastShift_12 : decode cX4_lastShift 12 = .ok (.ireturn, 1) := sorry
abbrev cX4_tearPlace : ByteArray := prog_16_method_62_code
def yX4_tearPlace : MethodName := ⟨RX4, "tearPlace", "()I"⟩
def dkwX4_tearPlace_1 : List UInt8 := [167, 0, 7, 42, 182, 0, 255, 172]
abbrev dktX4_tearPlace_1 : List UInt8 := dkwX4_tearPlace_1 ++ []
def dkwX4_tearPlace_0 : List UInt8 := [42, 42, 182, 0, 227, 153, 0, 7, 3, 167, 0, 4, 4, 181, 0, 92, 42, 180, 0, 92, 158, 0, 7, 3]
abbrev dktX4_tearPlace_0 : List UInt8 := dkwX4_tearPlace_0 ++ dktX4_tearPlace_1
theorem dksX4_tearPlace_0 : cX4_tearPlace.data.toList.drop 0 = dktX4_tearPlace_0 := sorry
theorem dksX4_tearPlace_1 : cX4_tearPlace.data.toList.drop 24 = dktX4_tearPlace_1 := sorry
theorem dX4_tearPlace_0 : decode cX4_tearPlace 0 = .ok (.aload_n 0, 1) := sorry
theorem dX4_tearPlace_1 : decode cX4_tearPlace 1 = .ok (.aload_n 0, 1) := sorry
theorem dX4_tearPlace_2 : decode cX4_tearPlace 2 = .ok (.invokevirtual 227, 3) := sorry
theorem dX4_tearPlace_5 : decode cX4_tearPlace 5 = .ok (.ifCond .eq 7, 3) := sorry
theorem dX4_tearPlace_8 : decode cX4_tearPlace 8 = .ok (.iconst 0, 1) := sorry
theorem dX4_tearPlace_9 : decode cX4_tearPlace 9 = .ok (.goto 4, 3) := sorry
theorem dX4_tearPlace_12 : decode cX4_tearPlace 12 = .ok (.iconst 1, 1) := sorry
theorem dX4_tearPlace_13 : decode cX4_tearPlace 13 = .ok (.putfield 92, 3) := sorry
theorem dX4_tearPlace_16 : decode cX4_tearPlace 16 = .ok (.aload_n 0, 1) := sorry
theorem dX4_tearPlace_17 : decode cX4_tearPlace 17 = .ok (.getfield 92, 3) := sorry
theorem dX4_tearPlace_20 : decode cX4_tearPlace 20 = .ok (.ifCond .le 7, 3) := sorry
theorem dX4_tearPlace_23 : decode cX4_tearPlace 23 = .ok (.iconst 0, 1) := sorry
theorem dX4_tearPlace_24 : decode cX4_tearPlace 24 = .ok (.goto 7, 3) := sorry
theorem dX4_tearPlace_27 : decode cX4_tearPlace 27 = .ok (.aload_n 0, 1) := sorry
theorem dX4_tearPlace_28 : decode cX4_tearPlace 28 = .ok (.invokevirtual 255, 3) := sorry
theorem dX4_tearPlace_31 : decode cX4_tearPlace 31 = .ok (.ireturn, 1) := sorry
abbrev cX4_tear : ByteArray := prog_16_method_61_code
def yX4_tear : MethodName := ⟨RX4, "tear", "()I"⟩
def dkwX4_tear_0 : List UInt8 := [42, 180, 0, 7, 16, 14, 46, 42, 180, 0, 7, 16, 12, 46, 5, 108, 100, 42, 180, 0, 23, 96, 172]
abbrev dktX4_tear_0 : List UInt8 := dkwX4_tear_0 ++ []
theorem dksX4_tear_0 : cX4_tear.data.toList.drop 0 = dktX4_tear_0 := sorry
theorem dX4_tear_0 : decode cX4_tear 0 = .ok (.aload_n 0, 1) := sorry
theorem dX4_tear_1 : decode cX4_tear 1 = .ok (.getfield 7, 3) := sorry
theorem dX4_tear_4 : decode cX4_tear 4 = .ok (.bipush 14, 2) := sorry
theorem dX4_tear_6 : decode cX4_tear 6 = .ok (.iaload, 1) := sorry
theorem dX4_tear_7 : decode cX4_tear 7 = .ok (.aload_n 0, 1) := sorry
theorem dX4_tear_8 : decode cX4_tear 8 = .ok (.getfield 7, 3) := sorry
theorem dX4_tear_11 : decode cX4_tear 11 = .ok (.bipush 12, 2) := sorry
theorem dX4_tear_13 : decode cX4_tear 13 = .ok (.iaload, 1) := sorry
theorem dX4_tear_14 : decode cX4_tear 14 = .ok (.iconst 2, 1) := sorry
theorem dX4_tear_15 : decode cX4_tear 15 = .ok (.idiv, 1) := sorry
theorem dX4_tear_16 : decode cX4_tear 16 = .ok (.isub, 1) := sorry
theorem dX4_tear_17 : decode cX4_tear 17 = .ok (.aload_n 0, 1) := sorry
theorem dX4_tear_18 : decode cX4_tear 18 = .ok (.getfield 23, 3) := sorry
theorem dX4_tear_21 : decode cX4_tear 21 = .ok (.iadd, 1) := sorry
theorem dX4_tear_22 : decode cX4_tear 22 = .ok (.ireturn, 1) := sorry
abbrev cX4_batchField : ByteArray := prog_16_method_68_code
def yX4_batchField : MethodName := ⟨RX4, "batchField", "(II)I"⟩
def dkwX4_batchField_5 : List UInt8 := [180, 0, 52, 27, 51, 153, 0, 7, 4, 167, 0, 4, 3, 172]
abbrev dktX4_batchField_5 : List UInt8 := dkwX4_batchField_5 ++ []
def dkwX4_batchField_4 : List UInt8 := [180, 0, 45, 27, 46, 172, 42, 180, 0, 48, 27, 51, 153, 0, 7, 4, 167, 0, 4, 3, 172, 42]
abbrev dktX4_batchField_4 : List UInt8 := dkwX4_batchField_4 ++ dktX4_batchField_5
def dkwX4_batchField_3 : List UInt8 := [42, 180, 0, 36, 27, 46, 172, 42, 180, 0, 39, 27, 46, 172, 42, 180, 0, 42, 27, 46, 172, 42]
abbrev dktX4_batchField_3 : List UInt8 := dkwX4_batchField_3 ++ dktX4_batchField_4
def dkwX4_batchField_2 : List UInt8 := [170, 0, 0, 0, 0, 0, 0, 79, 0, 0, 0, 0, 0, 0, 0, 4, 0, 0, 0, 36, 0, 0, 0, 43, 0, 0, 0, 50, 0, 0, 0, 57, 0, 0, 0, 64]
abbrev dktX4_batchField_2 : List UInt8 := dkwX4_batchField_2 ++ dktX4_batchField_3
def dkwX4_batchField_1 : List UInt8 := [167, 0, 4, 3, 181, 0, 92, 42, 180, 0, 92, 158, 0, 5, 3, 172, 28]
abbrev dktX4_batchField_1 : List UInt8 := dkwX4_batchField_1 ++ dktX4_batchField_2
def dkwX4_batchField_0 : List UInt8 := [42, 42, 27, 182, 1, 2, 154, 0, 7, 4, 167, 0, 17, 28, 3, 8, 184, 0, 115, 154, 0, 7, 5]
abbrev dktX4_batchField_0 : List UInt8 := dkwX4_batchField_0 ++ dktX4_batchField_1
theorem dksX4_batchField_0 : cX4_batchField.data.toList.drop 0 = dktX4_batchField_0 := sorry
theorem dksX4_batchField_1 : cX4_batchField.data.toList.drop 23 = dktX4_batchField_1 := sorry
theorem dksX4_batchField_2 : cX4_batchField.data.toList.drop 40 = dktX4_batchField_2 := sorry
theorem dksX4_batchField_3 : cX4_batchField.data.toList.drop 76 = dktX4_batchField_3 := sorry
theorem dksX4_batchField_4 : cX4_batchField.data.toList.drop 98 = dktX4_batchField_4 := sorry
theorem dksX4_batchField_5 : cX4_batchField.data.toList.drop 120 = dktX4_batchField_5 := sorry
theorem dX4_batchField_0 : decode cX4_batchField 0 = .ok (.aload_n 0, 1) := sorry
theorem dX4_batchField_1 : decode cX4_batchField 1 = .ok (.aload_n 0, 1) := sorry
theorem dX4_batchField_2 : decode cX4_batchField 2 = .ok (.iload_n 1, 1) := sorry
theorem dX4_batchField_3 : decode cX4_batchField 3 = .ok (.invokevirtual 258, 3) := sorry
theorem dX4_batchField_6 : decode cX4_batchField 6 = .ok (.ifCond .ne 7, 3) := sorry
theorem dX4_batchField_9 : decode cX4_batchField 9 = .ok (.iconst 1, 1) := sorry
theorem dX4_batchField_10 : decode cX4_batchField 10 = .ok (.goto 17, 3) := sorry
theorem dX4_batchField_13 : decode cX4_batchField 13 = .ok (.iload_n 2, 1) := sorry
theorem dX4_batchField_14 : decode cX4_batchField 14 = .ok (.iconst 0, 1) := sorry
theorem dX4_batchField_15 : decode cX4_batchField 15 = .ok (.iconst 5, 1) := sorry
theorem dX4_batchField_16 : decode cX4_batchField 16 = .ok (.invokestatic 115, 3) := sorry
theorem dX4_batchField_19 : decode cX4_batchField 19 = .ok (.ifCond .ne 7, 3) := sorry
theorem dX4_batchField_22 : decode cX4_batchField 22 = .ok (.iconst 2, 1) := sorry
theorem dX4_batchField_23 : decode cX4_batchField 23 = .ok (.goto 4, 3) := sorry
theorem dX4_batchField_26 : decode cX4_batchField 26 = .ok (.iconst 0, 1) := sorry
theorem dX4_batchField_27 : decode cX4_batchField 27 = .ok (.putfield 92, 3) := sorry
theorem dX4_batchField_30 : decode cX4_batchField 30 = .ok (.aload_n 0, 1) := sorry
theorem dX4_batchField_31 : decode cX4_batchField 31 = .ok (.getfield 92, 3) := sorry
theorem dX4_batchField_34 : decode cX4_batchField 34 = .ok (.ifCond .le 5, 3) := sorry
theorem dX4_batchField_37 : decode cX4_batchField 37 = .ok (.iconst 0, 1) := sorry
theorem dX4_batchField_38 : decode cX4_batchField 38 = .ok (.ireturn, 1) := sorry
theorem dX4_batchField_39 : decode cX4_batchField 39 = .ok (.iload_n 2, 1) := sorry
theorem dX4_batchField_40 : decode cX4_batchField 40 = .ok (.tableswitch 79 0 4 #[36, 43, 50, 57, 64], 36) := sorry
theorem dX4_batchField_76 : decode cX4_batchField 76 = .ok (.aload_n 0, 1) := sorry
theorem dX4_batchField_77 : decode cX4_batchField 77 = .ok (.getfield 36, 3) := sorry
theorem dX4_batchField_80 : decode cX4_batchField 80 = .ok (.iload_n 1, 1) := sorry
theorem dX4_batchField_81 : decode cX4_batchField 81 = .ok (.iaload, 1) := sorry
theorem dX4_batchField_82 : decode cX4_batchField 82 = .ok (.ireturn, 1) := sorry
theorem dX4_batchField_83 : decode cX4_batchField 83 = .ok (.aload_n 0, 1) := sorry
theorem dX4_batchField_84 : decode cX4_batchField 84 = .ok (.getfield 39, 3) := sorry
theorem dX4_batchField_87 : decode cX4_batchField 87 = .ok (.iload_n 1, 1) := sorry
theorem dX4_batchField_88 : decode cX4_batchField 88 = .ok (.iaload, 1) := sorry
theorem dX4_batchField_89 : decode cX4_batchField 89 = .ok (.ireturn, 1) := sorry
theorem dX4_batchField_90 : decode cX4_batchField 90 = .ok (.aload_n 0, 1) := sorry
theorem dX4_batchField_91 : decode cX4_batchField 91 = .ok (.getfield 42, 3) := sorry
theorem dX4_batchField_94 : decode cX4_batchField 94 = .ok (.iload_n 1, 1) := sorry
theorem dX4_batchField_95 : decode cX4_batchField 95 = .ok (.iaload, 1) := sorry
theorem dX4_batchField_96 : decode cX4_batchField 96 = .ok (.ireturn, 1) := sorry
theorem dX4_batchField_97 : decode cX4_batchField 97 = .ok (.aload_n 0, 1) := sorry
theorem dX4_batchField_98 : decode cX4_batchField 98 = .ok (.getfield 45, 3) := sorry
theorem dX4_batchField_101 : decode cX4_batchField 101 = .ok (.iload_n 1, 1) := sorry
theorem dX4_batchField_102 : decode cX4_batchField 102 = .ok (.iaload, 1) := sorry
theorem dX4_batchField_103 : decode cX4_batchField 103 = .ok (.ireturn, 1) := sorry
theorem dX4_batchField_104 : decode cX4_batchField 104 = .ok (.aload_n 0, 1) := sorry
theorem dX4_batchField_105 : decode cX4_batchField 105 = .ok (.getfield 48, 3) := sorry
theorem dX4_batchField_108 : decode cX4_batchField 108 = .ok (.iload_n 1, 1) := sorry
theorem dX4_batchField_109 : decode cX4_batchField 109 = .ok (.baload, 1) := sorry
theorem dX4_batchField_110 : decode cX4_batchField 110 = .ok (.ifCond .eq 7, 3) := sorry
theorem dX4_batchField_113 : decode cX4_batchField 113 = .ok (.iconst 1, 1) := sorry
theorem dX4_batchField_114 : decode cX4_batchField 114 = .ok (.goto 4, 3) := sorry
theorem dX4_batchField_117 : decode cX4_batchField 117 = .ok (.iconst 0, 1) := sorry
theorem dX4_batchField_118 : decode cX4_batchField 118 = .ok (.ireturn, 1) := sorry
theorem dX4_batchField_119 : decode cX4_batchField 119 = .ok (.aload_n 0, 1) := sorry
theorem dX4_batchField_120 : decode cX4_batchField 120 = .ok (.getfield 52, 3) := sorry
theorem dX4_batchField_123 : decode cX4_batchField 123 = .ok (.iload_n 1, 1) := sorry
theorem dX4_batchField_124 : decode cX4_batchField 124 = .ok (.baload, 1) := sorry
theorem dX4_batchField_125 : decode cX4_batchField 125 = .ok (.ifCond .eq 7, 3) := sorry
theorem dX4_batchField_128 : decode cX4_batchField 128 = .ok (.iconst 1, 1) := sorry
theorem dX4_batchField_129 : decode cX4_batchField 129 = .ok (.goto 4, 3) := sorry
theorem dX4_batchField_132 : decode cX4_batchField 132 = .ok (.iconst 0, 1) := sorry
theorem dX4_batchField_133 : decode cX4_batchField 133 = .ok (.ireturn, 1) := sorry
abbrev cX4_isBatch : ByteArray := prog_16_method_63_code
def yX4_isBatch : MethodName := ⟨RX4, "isBatch", "(I)Z"⟩
def dkwX4_isBatch_0 : List UInt8 := [27, 3, 42, 180, 0, 192, 4, 100, 184, 0, 115, 172]
abbrev dktX4_isBatch_0 : List UInt8 := dkwX4_isBatch_0 ++ []
theorem dksX4_isBatch_0 : cX4_isBatch.data.toList.drop 0 = dktX4_isBatch_0 := sorry
theorem dX4_isBatch_0 : decode cX4_isBatch 0 = .ok (.iload_n 1, 1) := sorry
theorem dX4_isBatch_1 : decode cX4_isBatch 1 = .ok (.iconst 0, 1) := sorry
theorem dX4_isBatch_2 : decode cX4_isBatch 2 = .ok (.aload_n 0, 1) := sorry
theorem dX4_isBatch_3 : decode cX4_isBatch 3 = .ok (.getfield 192, 3) := sorry
theorem dX4_isBatch_6 : decode cX4_isBatch 6 = .ok (.iconst 1, 1) := sorry
theorem dX4_isBatch_7 : decode cX4_isBatch 7 = .ok (.isub, 1) := sorry
theorem dX4_isBatch_8 : decode cX4_isBatch 8 = .ok (.invokestatic 115, 3) := sorry
theorem dX4_isBatch_11 : decode cX4_isBatch 11 = .ok (.ireturn, 1) := sorry
abbrev cX4_number : ByteArray := prog_16_method_71_code
def yX4_number : MethodName := ⟨RX4, "number", "(II)I"⟩
def dkwX4_number_1 : List UInt8 := [158, 0, 7, 3, 167, 0, 12, 42, 27, 28, 184, 1, 9, 182, 1, 12, 172]
abbrev dktX4_number_1 : List UInt8 := dkwX4_number_1 ++ []
def dkwX4_number_0 : List UInt8 := [42, 42, 27, 28, 182, 1, 5, 153, 0, 7, 3, 167, 0, 4, 4, 181, 0, 92, 42, 180, 0, 92]
abbrev dktX4_number_0 : List UInt8 := dkwX4_number_0 ++ dktX4_number_1
theorem dksX4_number_0 : cX4_number.data.toList.drop 0 = dktX4_number_0 := sorry
theorem dksX4_number_1 : cX4_number.data.toList.drop 22 = dktX4_number_1 := sorry
theorem dX4_number_0 : decode cX4_number 0 = .ok (.aload_n 0, 1) := sorry
theorem dX4_number_1 : decode cX4_number 1 = .ok (.aload_n 0, 1) := sorry
theorem dX4_number_2 : decode cX4_number 2 = .ok (.iload_n 1, 1) := sorry
theorem dX4_number_3 : decode cX4_number 3 = .ok (.iload_n 2, 1) := sorry
theorem dX4_number_4 : decode cX4_number 4 = .ok (.invokevirtual 261, 3) := sorry
theorem dX4_number_7 : decode cX4_number 7 = .ok (.ifCond .eq 7, 3) := sorry
theorem dX4_number_10 : decode cX4_number 10 = .ok (.iconst 0, 1) := sorry
theorem dX4_number_11 : decode cX4_number 11 = .ok (.goto 4, 3) := sorry
theorem dX4_number_14 : decode cX4_number 14 = .ok (.iconst 1, 1) := sorry
theorem dX4_number_15 : decode cX4_number 15 = .ok (.putfield 92, 3) := sorry
theorem dX4_number_18 : decode cX4_number 18 = .ok (.aload_n 0, 1) := sorry
theorem dX4_number_19 : decode cX4_number 19 = .ok (.getfield 92, 3) := sorry
theorem dX4_number_22 : decode cX4_number 22 = .ok (.ifCond .le 7, 3) := sorry
theorem dX4_number_25 : decode cX4_number 25 = .ok (.iconst 0, 1) := sorry
theorem dX4_number_26 : decode cX4_number 26 = .ok (.goto 12, 3) := sorry
theorem dX4_number_29 : decode cX4_number 29 = .ok (.aload_n 0, 1) := sorry
theorem dX4_number_30 : decode cX4_number 30 = .ok (.iload_n 1, 1) := sorry
theorem dX4_number_31 : decode cX4_number 31 = .ok (.iload_n 2, 1) := sorry
theorem dX4_number_32 : decode cX4_number 32 = .ok (.invokestatic 265, 3) := sorry
theorem dX4_number_35 : decode cX4_number 35 = .ok (.invokevirtual 268, 3) := sorry
theorem dX4_number_38 : decode cX4_number 38 = .ok (.ireturn, 1) := sorry
abbrev cX4_isSerial : ByteArray := prog_16_method_64_code
def yX4_isSerial : MethodName := ⟨RX4, "isSerial", "(II)Z"⟩
def dkwX4_isSerial_1 : List UInt8 := [4, 167, 0, 4, 3, 172]
abbrev dktX4_isSerial_1 : List UInt8 := dkwX4_isSerial_1 ++ []
def dkwX4_isSerial_0 : List UInt8 := [42, 27, 182, 1, 2, 153, 0, 23, 28, 3, 42, 180, 0, 39, 27, 46, 4, 100, 184, 0, 115, 153, 0, 7]
abbrev dktX4_isSerial_0 : List UInt8 := dkwX4_isSerial_0 ++ dktX4_isSerial_1
theorem dksX4_isSerial_0 : cX4_isSerial.data.toList.drop 0 = dktX4_isSerial_0 := sorry
theorem dksX4_isSerial_1 : cX4_isSerial.data.toList.drop 24 = dktX4_isSerial_1 := sorry
theorem dX4_isSerial_0 : decode cX4_isSerial 0 = .ok (.aload_n 0, 1) := sorry
theorem dX4_isSerial_1 : decode cX4_isSerial 1 = .ok (.iload_n 1, 1) := sorry
theorem dX4_isSerial_2 : decode cX4_isSerial 2 = .ok (.invokevirtual 258, 3) := sorry
theorem dX4_isSerial_5 : decode cX4_isSerial 5 = .ok (.ifCond .eq 23, 3) := sorry
theorem dX4_isSerial_8 : decode cX4_isSerial 8 = .ok (.iload_n 2, 1) := sorry
theorem dX4_isSerial_9 : decode cX4_isSerial 9 = .ok (.iconst 0, 1) := sorry
theorem dX4_isSerial_10 : decode cX4_isSerial 10 = .ok (.aload_n 0, 1) := sorry
theorem dX4_isSerial_11 : decode cX4_isSerial 11 = .ok (.getfield 39, 3) := sorry
theorem dX4_isSerial_14 : decode cX4_isSerial 14 = .ok (.iload_n 1, 1) := sorry
theorem dX4_isSerial_15 : decode cX4_isSerial 15 = .ok (.iaload, 1) := sorry
theorem dX4_isSerial_16 : decode cX4_isSerial 16 = .ok (.iconst 1, 1) := sorry
theorem dX4_isSerial_17 : decode cX4_isSerial 17 = .ok (.isub, 1) := sorry
theorem dX4_isSerial_18 : decode cX4_isSerial 18 = .ok (.invokestatic 115, 3) := sorry
theorem dX4_isSerial_21 : decode cX4_isSerial 21 = .ok (.ifCond .eq 7, 3) := sorry
theorem dX4_isSerial_24 : decode cX4_isSerial 24 = .ok (.iconst 1, 1) := sorry
theorem dX4_isSerial_25 : decode cX4_isSerial 25 = .ok (.goto 4, 3) := sorry
theorem dX4_isSerial_28 : decode cX4_isSerial 28 = .ok (.iconst 0, 1) := sorry
theorem dX4_isSerial_29 : decode cX4_isSerial 29 = .ok (.ireturn, 1) := sorry
abbrev cX4_place : ByteArray := prog_16_method_65_code
def yX4_place : MethodName := ⟨RX4, "place", "(II)I"⟩
def dkwX4_place_0 : List UInt8 := [16, 40, 26, 104, 27, 96, 172]
abbrev dktX4_place_0 : List UInt8 := dkwX4_place_0 ++ []
theorem dksX4_place_0 : cX4_place.data.toList.drop 0 = dktX4_place_0 := sorry
theorem dX4_place_0 : decode cX4_place 0 = .ok (.bipush 40, 2) := sorry
theorem dX4_place_2 : decode cX4_place 2 = .ok (.iload_n 0, 1) := sorry
theorem dX4_place_3 : decode cX4_place 3 = .ok (.imul, 1) := sorry
theorem dX4_place_4 : decode cX4_place 4 = .ok (.iload_n 1, 1) := sorry
theorem dX4_place_5 : decode cX4_place 5 = .ok (.iadd, 1) := sorry
theorem dX4_place_6 : decode cX4_place 6 = .ok (.ireturn, 1) := sorry
abbrev cX4_numberOf : ByteArray := prog_16_method_69_code
def yX4_numberOf : MethodName := ⟨RX4, "numberOf", "(I)I"⟩
def dkwX4_numberOf_2 : List UInt8 := [104, 96, 29, 112, 172]
abbrev dktX4_numberOf_2 : List UInt8 := dkwX4_numberOf_2 ++ []
def dkwX4_numberOf_1 : List UInt8 := [104, 62, 132, 4, 1, 167, 255, 237, 42, 180, 0, 36, 28, 46, 27, 16, 40, 112, 42, 180, 0, 42, 28, 46]
abbrev dktX4_numberOf_1 : List UInt8 := dkwX4_numberOf_1 ++ dktX4_numberOf_2
def dkwX4_numberOf_0 : List UInt8 := [27, 16, 40, 108, 61, 4, 62, 3, 54, 4, 21, 4, 42, 180, 0, 45, 28, 46, 162, 0, 14, 29, 16, 10]
abbrev dktX4_numberOf_0 : List UInt8 := dkwX4_numberOf_0 ++ dktX4_numberOf_1
theorem dksX4_numberOf_0 : cX4_numberOf.data.toList.drop 0 = dktX4_numberOf_0 := sorry
theorem dksX4_numberOf_1 : cX4_numberOf.data.toList.drop 24 = dktX4_numberOf_1 := sorry
theorem dksX4_numberOf_2 : cX4_numberOf.data.toList.drop 48 = dktX4_numberOf_2 := sorry
theorem dX4_numberOf_0 : decode cX4_numberOf 0 = .ok (.iload_n 1, 1) := sorry
theorem dX4_numberOf_1 : decode cX4_numberOf 1 = .ok (.bipush 40, 2) := sorry
theorem dX4_numberOf_3 : decode cX4_numberOf 3 = .ok (.idiv, 1) := sorry
theorem dX4_numberOf_4 : decode cX4_numberOf 4 = .ok (.istore_n 2, 1) := sorry
theorem dX4_numberOf_5 : decode cX4_numberOf 5 = .ok (.iconst 1, 1) := sorry
theorem dX4_numberOf_6 : decode cX4_numberOf 6 = .ok (.istore_n 3, 1) := sorry
theorem dX4_numberOf_7 : decode cX4_numberOf 7 = .ok (.iconst 0, 1) := sorry
theorem dX4_numberOf_8 : decode cX4_numberOf 8 = .ok (.istore 4, 2) := sorry
theorem dX4_numberOf_10 : decode cX4_numberOf 10 = .ok (.iload 4, 2) := sorry
theorem dX4_numberOf_12 : decode cX4_numberOf 12 = .ok (.aload_n 0, 1) := sorry
theorem dX4_numberOf_13 : decode cX4_numberOf 13 = .ok (.getfield 45, 3) := sorry
theorem dX4_numberOf_16 : decode cX4_numberOf 16 = .ok (.iload_n 2, 1) := sorry
theorem dX4_numberOf_17 : decode cX4_numberOf 17 = .ok (.iaload, 1) := sorry
theorem dX4_numberOf_18 : decode cX4_numberOf 18 = .ok (.if_icmp .ge 14, 3) := sorry
theorem dX4_numberOf_21 : decode cX4_numberOf 21 = .ok (.iload_n 3, 1) := sorry
theorem dX4_numberOf_22 : decode cX4_numberOf 22 = .ok (.bipush 10, 2) := sorry
theorem dX4_numberOf_24 : decode cX4_numberOf 24 = .ok (.imul, 1) := sorry
theorem dX4_numberOf_25 : decode cX4_numberOf 25 = .ok (.istore_n 3, 1) := sorry
theorem dX4_numberOf_26 : decode cX4_numberOf 26 = .ok (.iinc 4 1, 3) := sorry
theorem dX4_numberOf_29 : decode cX4_numberOf 29 = .ok (.goto (-19), 3) := sorry
theorem dX4_numberOf_32 : decode cX4_numberOf 32 = .ok (.aload_n 0, 1) := sorry
theorem dX4_numberOf_33 : decode cX4_numberOf 33 = .ok (.getfield 36, 3) := sorry
theorem dX4_numberOf_36 : decode cX4_numberOf 36 = .ok (.iload_n 2, 1) := sorry
theorem dX4_numberOf_37 : decode cX4_numberOf 37 = .ok (.iaload, 1) := sorry
theorem dX4_numberOf_38 : decode cX4_numberOf 38 = .ok (.iload_n 1, 1) := sorry
theorem dX4_numberOf_39 : decode cX4_numberOf 39 = .ok (.bipush 40, 2) := sorry
theorem dX4_numberOf_41 : decode cX4_numberOf 41 = .ok (.irem, 1) := sorry
theorem dX4_numberOf_42 : decode cX4_numberOf 42 = .ok (.aload_n 0, 1) := sorry
theorem dX4_numberOf_43 : decode cX4_numberOf 43 = .ok (.getfield 42, 3) := sorry
theorem dX4_numberOf_46 : decode cX4_numberOf 46 = .ok (.iload_n 2, 1) := sorry
theorem dX4_numberOf_47 : decode cX4_numberOf 47 = .ok (.iaload, 1) := sorry
theorem dX4_numberOf_48 : decode cX4_numberOf 48 = .ok (.imul, 1) := sorry
theorem dX4_numberOf_49 : decode cX4_numberOf 49 = .ok (.iadd, 1) := sorry
theorem dX4_numberOf_50 : decode cX4_numberOf 50 = .ok (.iload_n 3, 1) := sorry
theorem dX4_numberOf_51 : decode cX4_numberOf 51 = .ok (.irem, 1) := sorry
theorem dX4_numberOf_52 : decode cX4_numberOf 52 = .ok (.ireturn, 1) := sorry
abbrev cX4_checkDigit : ByteArray := prog_16_method_72_code
def yX4_checkDigit : MethodName := ⟨RX4, "checkDigit", "(II)I"⟩
def dkwX4_checkDigit_1 : List UInt8 := [158, 0, 7, 3, 167, 0, 15, 42, 27, 28, 184, 1, 9, 182, 1, 12, 184, 1, 15, 172]
abbrev dktX4_checkDigit_1 : List UInt8 := dkwX4_checkDigit_1 ++ []
def dkwX4_checkDigit_0 : List UInt8 := [42, 42, 27, 28, 182, 1, 5, 153, 0, 7, 3, 167, 0, 4, 4, 181, 0, 92, 42, 180, 0, 92]
abbrev dktX4_checkDigit_0 : List UInt8 := dkwX4_checkDigit_0 ++ dktX4_checkDigit_1
theorem dksX4_checkDigit_0 : cX4_checkDigit.data.toList.drop 0 = dktX4_checkDigit_0 := sorry
theorem dksX4_checkDigit_1 : cX4_checkDigit.data.toList.drop 22 = dktX4_checkDigit_1 := sorry
theorem dX4_checkDigit_0 : decode cX4_checkDigit 0 = .ok (.aload_n 0, 1) := sorry
theorem dX4_checkDigit_1 : decode cX4_checkDigit 1 = .ok (.aload_n 0, 1) := sorry
theorem dX4_checkDigit_2 : decode cX4_checkDigit 2 = .ok (.iload_n 1, 1) := sorry
theorem dX4_checkDigit_3 : decode cX4_checkDigit 3 = .ok (.iload_n 2, 1) := sorry
theorem dX4_checkDigit_4 : decode cX4_checkDigit 4 = .ok (.invokevirtual 261, 3) := sorry
theorem dX4_checkDigit_7 : decode cX4_checkDigit 7 = .ok (.ifCond .eq 7, 3) := sorry
theorem dX4_checkDigit_10 : decode cX4_checkDigit 10 = .ok (.iconst 0, 1) := sorry
theorem dX4_checkDigit_11 : decode cX4_checkDigit 11 = .ok (.goto 4, 3) := sorry
theorem dX4_checkDigit_14 : decode cX4_checkDigit 14 = .ok (.iconst 1, 1) := sorry
theorem dX4_checkDigit_15 : decode cX4_checkDigit 15 = .ok (.putfield 92, 3) := sorry
theorem dX4_checkDigit_18 : decode cX4_checkDigit 18 = .ok (.aload_n 0, 1) := sorry
theorem dX4_checkDigit_19 : decode cX4_checkDigit 19 = .ok (.getfield 92, 3) := sorry
theorem dX4_checkDigit_22 : decode cX4_checkDigit 22 = .ok (.ifCond .le 7, 3) := sorry
theorem dX4_checkDigit_25 : decode cX4_checkDigit 25 = .ok (.iconst 0, 1) := sorry
theorem dX4_checkDigit_26 : decode cX4_checkDigit 26 = .ok (.goto 15, 3) := sorry
theorem dX4_checkDigit_29 : decode cX4_checkDigit 29 = .ok (.aload_n 0, 1) := sorry
theorem dX4_checkDigit_30 : decode cX4_checkDigit 30 = .ok (.iload_n 1, 1) := sorry
theorem dX4_checkDigit_31 : decode cX4_checkDigit 31 = .ok (.iload_n 2, 1) := sorry
theorem dX4_checkDigit_32 : decode cX4_checkDigit 32 = .ok (.invokestatic 265, 3) := sorry
theorem dX4_checkDigit_35 : decode cX4_checkDigit 35 = .ok (.invokevirtual 268, 3) := sorry
theorem dX4_checkDigit_38 : decode cX4_checkDigit 38 = .ok (.invokestatic 271, 3) := sorry
theorem dX4_checkDigit_41 : decode cX4_checkDigit 41 = .ok (.ireturn, 1) := sorry
abbrev cX4_checkOf : ByteArray := prog_16_method_70_code
def yX4_checkOf : MethodName := ⟨RX4, "checkOf", "(I)I"⟩
def dkwX4_checkOf_1 : List UInt8 := [16, 10, 108, 62, 167, 255, 234, 16, 10, 27, 16, 10, 112, 100, 16, 10, 112, 172]
abbrev dktX4_checkOf_1 : List UInt8 := dkwX4_checkOf_1 ++ []
def dkwX4_checkOf_0 : List UInt8 := [3, 60, 6, 61, 26, 62, 29, 158, 0, 24, 27, 29, 16, 10, 112, 28, 104, 96, 60, 7, 28, 100, 61, 29]
abbrev dktX4_checkOf_0 : List UInt8 := dkwX4_checkOf_0 ++ dktX4_checkOf_1
theorem dksX4_checkOf_0 : cX4_checkOf.data.toList.drop 0 = dktX4_checkOf_0 := sorry
theorem dksX4_checkOf_1 : cX4_checkOf.data.toList.drop 24 = dktX4_checkOf_1 := sorry
theorem dX4_checkOf_0 : decode cX4_checkOf 0 = .ok (.iconst 0, 1) := sorry
theorem dX4_checkOf_1 : decode cX4_checkOf 1 = .ok (.istore_n 1, 1) := sorry
theorem dX4_checkOf_2 : decode cX4_checkOf 2 = .ok (.iconst 3, 1) := sorry
theorem dX4_checkOf_3 : decode cX4_checkOf 3 = .ok (.istore_n 2, 1) := sorry
theorem dX4_checkOf_4 : decode cX4_checkOf 4 = .ok (.iload_n 0, 1) := sorry
theorem dX4_checkOf_5 : decode cX4_checkOf 5 = .ok (.istore_n 3, 1) := sorry
theorem dX4_checkOf_6 : decode cX4_checkOf 6 = .ok (.iload_n 3, 1) := sorry
theorem dX4_checkOf_7 : decode cX4_checkOf 7 = .ok (.ifCond .le 24, 3) := sorry
theorem dX4_checkOf_10 : decode cX4_checkOf 10 = .ok (.iload_n 1, 1) := sorry
theorem dX4_checkOf_11 : decode cX4_checkOf 11 = .ok (.iload_n 3, 1) := sorry
theorem dX4_checkOf_12 : decode cX4_checkOf 12 = .ok (.bipush 10, 2) := sorry
theorem dX4_checkOf_14 : decode cX4_checkOf 14 = .ok (.irem, 1) := sorry
theorem dX4_checkOf_15 : decode cX4_checkOf 15 = .ok (.iload_n 2, 1) := sorry
theorem dX4_checkOf_16 : decode cX4_checkOf 16 = .ok (.imul, 1) := sorry
theorem dX4_checkOf_17 : decode cX4_checkOf 17 = .ok (.iadd, 1) := sorry
theorem dX4_checkOf_18 : decode cX4_checkOf 18 = .ok (.istore_n 1, 1) := sorry
theorem dX4_checkOf_19 : decode cX4_checkOf 19 = .ok (.iconst 4, 1) := sorry
theorem dX4_checkOf_20 : decode cX4_checkOf 20 = .ok (.iload_n 2, 1) := sorry
theorem dX4_checkOf_21 : decode cX4_checkOf 21 = .ok (.isub, 1) := sorry
theorem dX4_checkOf_22 : decode cX4_checkOf 22 = .ok (.istore_n 2, 1) := sorry
theorem dX4_checkOf_23 : decode cX4_checkOf 23 = .ok (.iload_n 3, 1) := sorry
theorem dX4_checkOf_24 : decode cX4_checkOf 24 = .ok (.bipush 10, 2) := sorry
theorem dX4_checkOf_26 : decode cX4_checkOf 26 = .ok (.idiv, 1) := sorry
theorem dX4_checkOf_27 : decode cX4_checkOf 27 = .ok (.istore_n 3, 1) := sorry
theorem dX4_checkOf_28 : decode cX4_checkOf 28 = .ok (.goto (-22), 3) := sorry
theorem dX4_checkOf_31 : decode cX4_checkOf 31 = .ok (.bipush 10, 2) := sorry
theorem dX4_checkOf_33 : decode cX4_checkOf 33 = .ok (.iload_n 1, 1) := sorry
theorem dX4_checkOf_34 : decode cX4_checkOf 34 = .ok (.bipush 10, 2) := sorry
theorem dX4_checkOf_36 : decode cX4_checkOf 36 = .ok (.irem, 1) := sorry
theorem dX4_checkOf_37 : decode cX4_checkOf 37 = .ok (.isub, 1) := sorry
theorem dX4_checkOf_38 : decode cX4_checkOf 38 = .ok (.bipush 10, 2) := sorry
theorem dX4_checkOf_40 : decode cX4_checkOf 40 = .ok (.irem, 1) := sorry
theorem dX4_checkOf_41 : decode cX4_checkOf 41 = .ok (.ireturn, 1) := sorry
abbrev cX4_stateOf : ByteArray := prog_16_method_73_code
def yX4_stateOf : MethodName := ⟨RX4, "stateOf", "(II)I"⟩
def dkwX4_stateOf_1 : List UInt8 := [158, 0, 7, 3, 167, 0, 16, 42, 180, 0, 7, 16, 125, 27, 28, 184, 1, 9, 96, 46, 172]
abbrev dktX4_stateOf_1 : List UInt8 := dkwX4_stateOf_1 ++ []
def dkwX4_stateOf_0 : List UInt8 := [42, 42, 27, 28, 182, 1, 5, 153, 0, 7, 3, 167, 0, 4, 4, 181, 0, 92, 42, 180, 0, 92]
abbrev dktX4_stateOf_0 : List UInt8 := dkwX4_stateOf_0 ++ dktX4_stateOf_1
theorem dksX4_stateOf_0 : cX4_stateOf.data.toList.drop 0 = dktX4_stateOf_0 := sorry
theorem dksX4_stateOf_1 : cX4_stateOf.data.toList.drop 22 = dktX4_stateOf_1 := sorry
theorem dX4_stateOf_0 : decode cX4_stateOf 0 = .ok (.aload_n 0, 1) := sorry
theorem dX4_stateOf_1 : decode cX4_stateOf 1 = .ok (.aload_n 0, 1) := sorry
theorem dX4_stateOf_2 : decode cX4_stateOf 2 = .ok (.iload_n 1, 1) := sorry
theorem dX4_stateOf_3 : decode cX4_stateOf 3 = .ok (.iload_n 2, 1) := sorry
theorem dX4_stateOf_4 : decode cX4_stateOf 4 = .ok (.invokevirtual 261, 3) := sorry
theorem dX4_stateOf_7 : decode cX4_stateOf 7 = .ok (.ifCond .eq 7, 3) := sorry
theorem dX4_stateOf_10 : decode cX4_stateOf 10 = .ok (.iconst 0, 1) := sorry
theorem dX4_stateOf_11 : decode cX4_stateOf 11 = .ok (.goto 4, 3) := sorry
theorem dX4_stateOf_14 : decode cX4_stateOf 14 = .ok (.iconst 1, 1) := sorry
theorem dX4_stateOf_15 : decode cX4_stateOf 15 = .ok (.putfield 92, 3) := sorry
theorem dX4_stateOf_18 : decode cX4_stateOf 18 = .ok (.aload_n 0, 1) := sorry
theorem dX4_stateOf_19 : decode cX4_stateOf 19 = .ok (.getfield 92, 3) := sorry
theorem dX4_stateOf_22 : decode cX4_stateOf 22 = .ok (.ifCond .le 7, 3) := sorry
theorem dX4_stateOf_25 : decode cX4_stateOf 25 = .ok (.iconst 0, 1) := sorry
theorem dX4_stateOf_26 : decode cX4_stateOf 26 = .ok (.goto 16, 3) := sorry
theorem dX4_stateOf_29 : decode cX4_stateOf 29 = .ok (.aload_n 0, 1) := sorry
theorem dX4_stateOf_30 : decode cX4_stateOf 30 = .ok (.getfield 7, 3) := sorry
theorem dX4_stateOf_33 : decode cX4_stateOf 33 = .ok (.bipush 125, 2) := sorry
theorem dX4_stateOf_35 : decode cX4_stateOf 35 = .ok (.iload_n 1, 1) := sorry
theorem dX4_stateOf_36 : decode cX4_stateOf 36 = .ok (.iload_n 2, 1) := sorry
theorem dX4_stateOf_37 : decode cX4_stateOf 37 = .ok (.invokestatic 265, 3) := sorry
theorem dX4_stateOf_40 : decode cX4_stateOf 40 = .ok (.iadd, 1) := sorry
theorem dX4_stateOf_41 : decode cX4_stateOf 41 = .ok (.iaload, 1) := sorry
theorem dX4_stateOf_42 : decode cX4_stateOf 42 = .ok (.ireturn, 1) := sorry
abbrev cX4_attempts : ByteArray := prog_16_method_74_code
def yX4_attempts : MethodName := ⟨RX4, "attempts", "(II)I"⟩
def dkwX4_attempts_1 : List UInt8 := [158, 0, 7, 3, 167, 0, 17, 42, 180, 0, 7, 17, 1, 109, 27, 28, 184, 1, 9, 96, 46, 172]
abbrev dktX4_attempts_1 : List UInt8 := dkwX4_attempts_1 ++ []
def dkwX4_attempts_0 : List UInt8 := [42, 42, 27, 28, 182, 1, 5, 153, 0, 7, 3, 167, 0, 4, 4, 181, 0, 92, 42, 180, 0, 92]
abbrev dktX4_attempts_0 : List UInt8 := dkwX4_attempts_0 ++ dktX4_attempts_1
theorem dksX4_attempts_0 : cX4_attempts.data.toList.drop 0 = dktX4_attempts_0 := sorry
theorem dksX4_attempts_1 : cX4_attempts.data.toList.drop 22 = dktX4_attempts_1 := sorry
theorem dX4_attempts_0 : decode cX4_attempts 0 = .ok (.aload_n 0, 1) := sorry
theorem dX4_attempts_1 : decode cX4_attempts 1 = .ok (.aload_n 0, 1) := sorry
theorem dX4_attempts_2 : decode cX4_attempts 2 = .ok (.iload_n 1, 1) := sorry
theorem dX4_attempts_3 : decode cX4_attempts 3 = .ok (.iload_n 2, 1) := sorry
theorem dX4_attempts_4 : decode cX4_attempts 4 = .ok (.invokevirtual 261, 3) := sorry
theorem dX4_attempts_7 : decode cX4_attempts 7 = .ok (.ifCond .eq 7, 3) := sorry
theorem dX4_attempts_10 : decode cX4_attempts 10 = .ok (.iconst 0, 1) := sorry
theorem dX4_attempts_11 : decode cX4_attempts 11 = .ok (.goto 4, 3) := sorry
theorem dX4_attempts_14 : decode cX4_attempts 14 = .ok (.iconst 1, 1) := sorry
theorem dX4_attempts_15 : decode cX4_attempts 15 = .ok (.putfield 92, 3) := sorry
theorem dX4_attempts_18 : decode cX4_attempts 18 = .ok (.aload_n 0, 1) := sorry
theorem dX4_attempts_19 : decode cX4_attempts 19 = .ok (.getfield 92, 3) := sorry
theorem dX4_attempts_22 : decode cX4_attempts 22 = .ok (.ifCond .le 7, 3) := sorry
theorem dX4_attempts_25 : decode cX4_attempts 25 = .ok (.iconst 0, 1) := sorry
theorem dX4_attempts_26 : decode cX4_attempts 26 = .ok (.goto 17, 3) := sorry
theorem dX4_attempts_29 : decode cX4_attempts 29 = .ok (.aload_n 0, 1) := sorry
theorem dX4_attempts_30 : decode cX4_attempts 30 = .ok (.getfield 7, 3) := sorry
theorem dX4_attempts_33 : decode cX4_attempts 33 = .ok (.sipush 365, 3) := sorry
theorem dX4_attempts_36 : decode cX4_attempts 36 = .ok (.iload_n 1, 1) := sorry
theorem dX4_attempts_37 : decode cX4_attempts 37 = .ok (.iload_n 2, 1) := sorry
theorem dX4_attempts_38 : decode cX4_attempts 38 = .ok (.invokestatic 265, 3) := sorry
theorem dX4_attempts_41 : decode cX4_attempts 41 = .ok (.iadd, 1) := sorry
theorem dX4_attempts_42 : decode cX4_attempts 42 = .ok (.iaload, 1) := sorry
theorem dX4_attempts_43 : decode cX4_attempts 43 = .ok (.ireturn, 1) := sorry
abbrev cX4_countOf : ByteArray := prog_16_method_76_code
def yX4_countOf : MethodName := ⟨RX4, "countOf", "(II)I"⟩
def dkwX4_countOf_2 : List UInt8 := [172]
abbrev dktX4_countOf_2 : List UInt8 := dkwX4_countOf_2 ++ []
def dkwX4_countOf_1 : List UInt8 := [167, 0, 4, 3, 181, 0, 92, 42, 180, 0, 92, 158, 0, 7, 3, 167, 0, 9, 42, 27, 28, 182, 1, 18]
abbrev dktX4_countOf_1 : List UInt8 := dkwX4_countOf_1 ++ dktX4_countOf_2
def dkwX4_countOf_0 : List UInt8 := [42, 42, 27, 182, 1, 2, 154, 0, 7, 4, 167, 0, 17, 28, 3, 5, 184, 0, 115, 154, 0, 7, 5]
abbrev dktX4_countOf_0 : List UInt8 := dkwX4_countOf_0 ++ dktX4_countOf_1
theorem dksX4_countOf_0 : cX4_countOf.data.toList.drop 0 = dktX4_countOf_0 := sorry
theorem dksX4_countOf_1 : cX4_countOf.data.toList.drop 23 = dktX4_countOf_1 := sorry
theorem dksX4_countOf_2 : cX4_countOf.data.toList.drop 47 = dktX4_countOf_2 := sorry
theorem dX4_countOf_0 : decode cX4_countOf 0 = .ok (.aload_n 0, 1) := sorry
theorem dX4_countOf_1 : decode cX4_countOf 1 = .ok (.aload_n 0, 1) := sorry
theorem dX4_countOf_2 : decode cX4_countOf 2 = .ok (.iload_n 1, 1) := sorry
theorem dX4_countOf_3 : decode cX4_countOf 3 = .ok (.invokevirtual 258, 3) := sorry
theorem dX4_countOf_6 : decode cX4_countOf 6 = .ok (.ifCond .ne 7, 3) := sorry
theorem dX4_countOf_9 : decode cX4_countOf 9 = .ok (.iconst 1, 1) := sorry
theorem dX4_countOf_10 : decode cX4_countOf 10 = .ok (.goto 17, 3) := sorry
theorem dX4_countOf_13 : decode cX4_countOf 13 = .ok (.iload_n 2, 1) := sorry
theorem dX4_countOf_14 : decode cX4_countOf 14 = .ok (.iconst 0, 1) := sorry
theorem dX4_countOf_15 : decode cX4_countOf 15 = .ok (.iconst 2, 1) := sorry
theorem dX4_countOf_16 : decode cX4_countOf 16 = .ok (.invokestatic 115, 3) := sorry
theorem dX4_countOf_19 : decode cX4_countOf 19 = .ok (.ifCond .ne 7, 3) := sorry
theorem dX4_countOf_22 : decode cX4_countOf 22 = .ok (.iconst 2, 1) := sorry
theorem dX4_countOf_23 : decode cX4_countOf 23 = .ok (.goto 4, 3) := sorry
theorem dX4_countOf_26 : decode cX4_countOf 26 = .ok (.iconst 0, 1) := sorry
theorem dX4_countOf_27 : decode cX4_countOf 27 = .ok (.putfield 92, 3) := sorry
theorem dX4_countOf_30 : decode cX4_countOf 30 = .ok (.aload_n 0, 1) := sorry
theorem dX4_countOf_31 : decode cX4_countOf 31 = .ok (.getfield 92, 3) := sorry
theorem dX4_countOf_34 : decode cX4_countOf 34 = .ok (.ifCond .le 7, 3) := sorry
theorem dX4_countOf_37 : decode cX4_countOf 37 = .ok (.iconst 0, 1) := sorry
theorem dX4_countOf_38 : decode cX4_countOf 38 = .ok (.goto 9, 3) := sorry
theorem dX4_countOf_41 : decode cX4_countOf 41 = .ok (.aload_n 0, 1) := sorry
theorem dX4_countOf_42 : decode cX4_countOf 42 = .ok (.iload_n 1, 1) := sorry
theorem dX4_countOf_43 : decode cX4_countOf 43 = .ok (.iload_n 2, 1) := sorry
theorem dX4_countOf_44 : decode cX4_countOf 44 = .ok (.invokevirtual 274, 3) := sorry
theorem dX4_countOf_47 : decode cX4_countOf 47 = .ok (.ireturn, 1) := sorry
abbrev cX4_manyIn : ByteArray := prog_16_method_75_code
def yX4_manyIn : MethodName := ⟨RX4, "manyIn", "(II)I"⟩
def dkwX4_manyIn_2 : List UInt8 := [29, 172]
abbrev dktX4_manyIn_2 : List UInt8 := dkwX4_manyIn_2 ++ []
def dkwX4_manyIn_1 : List UInt8 := [21, 4, 184, 1, 9, 96, 46, 28, 160, 0, 7, 4, 167, 0, 4, 3, 96, 62, 132, 4, 1, 167, 255, 216]
abbrev dktX4_manyIn_1 : List UInt8 := dkwX4_manyIn_1 ++ dktX4_manyIn_2
def dkwX4_manyIn_0 : List UInt8 := [3, 62, 3, 54, 4, 21, 4, 42, 180, 0, 39, 27, 46, 162, 0, 35, 29, 42, 180, 0, 7, 16, 125, 27]
abbrev dktX4_manyIn_0 : List UInt8 := dkwX4_manyIn_0 ++ dktX4_manyIn_1
theorem dksX4_manyIn_0 : cX4_manyIn.data.toList.drop 0 = dktX4_manyIn_0 := sorry
theorem dksX4_manyIn_1 : cX4_manyIn.data.toList.drop 24 = dktX4_manyIn_1 := sorry
theorem dksX4_manyIn_2 : cX4_manyIn.data.toList.drop 48 = dktX4_manyIn_2 := sorry
theorem dX4_manyIn_0 : decode cX4_manyIn 0 = .ok (.iconst 0, 1) := sorry
theorem dX4_manyIn_1 : decode cX4_manyIn 1 = .ok (.istore_n 3, 1) := sorry
theorem dX4_manyIn_2 : decode cX4_manyIn 2 = .ok (.iconst 0, 1) := sorry
theorem dX4_manyIn_3 : decode cX4_manyIn 3 = .ok (.istore 4, 2) := sorry
theorem dX4_manyIn_5 : decode cX4_manyIn 5 = .ok (.iload 4, 2) := sorry
theorem dX4_manyIn_7 : decode cX4_manyIn 7 = .ok (.aload_n 0, 1) := sorry
theorem dX4_manyIn_8 : decode cX4_manyIn 8 = .ok (.getfield 39, 3) := sorry
theorem dX4_manyIn_11 : decode cX4_manyIn 11 = .ok (.iload_n 1, 1) := sorry
theorem dX4_manyIn_12 : decode cX4_manyIn 12 = .ok (.iaload, 1) := sorry
theorem dX4_manyIn_13 : decode cX4_manyIn 13 = .ok (.if_icmp .ge 35, 3) := sorry
theorem dX4_manyIn_16 : decode cX4_manyIn 16 = .ok (.iload_n 3, 1) := sorry
theorem dX4_manyIn_17 : decode cX4_manyIn 17 = .ok (.aload_n 0, 1) := sorry
theorem dX4_manyIn_18 : decode cX4_manyIn 18 = .ok (.getfield 7, 3) := sorry
theorem dX4_manyIn_21 : decode cX4_manyIn 21 = .ok (.bipush 125, 2) := sorry
theorem dX4_manyIn_23 : decode cX4_manyIn 23 = .ok (.iload_n 1, 1) := sorry
theorem dX4_manyIn_24 : decode cX4_manyIn 24 = .ok (.iload 4, 2) := sorry
theorem dX4_manyIn_26 : decode cX4_manyIn 26 = .ok (.invokestatic 265, 3) := sorry
theorem dX4_manyIn_29 : decode cX4_manyIn 29 = .ok (.iadd, 1) := sorry
theorem dX4_manyIn_30 : decode cX4_manyIn 30 = .ok (.iaload, 1) := sorry
theorem dX4_manyIn_31 : decode cX4_manyIn 31 = .ok (.iload_n 2, 1) := sorry
theorem dX4_manyIn_32 : decode cX4_manyIn 32 = .ok (.if_icmp .ne 7, 3) := sorry
theorem dX4_manyIn_35 : decode cX4_manyIn 35 = .ok (.iconst 1, 1) := sorry
theorem dX4_manyIn_36 : decode cX4_manyIn 36 = .ok (.goto 4, 3) := sorry
theorem dX4_manyIn_39 : decode cX4_manyIn 39 = .ok (.iconst 0, 1) := sorry
theorem dX4_manyIn_40 : decode cX4_manyIn 40 = .ok (.iadd, 1) := sorry
theorem dX4_manyIn_41 : decode cX4_manyIn 41 = .ok (.istore_n 3, 1) := sorry
theorem dX4_manyIn_42 : decode cX4_manyIn 42 = .ok (.iinc 4 1, 3) := sorry
theorem dX4_manyIn_45 : decode cX4_manyIn 45 = .ok (.goto (-40), 3) := sorry
theorem dX4_manyIn_48 : decode cX4_manyIn 48 = .ok (.iload_n 3, 1) := sorry
theorem dX4_manyIn_49 : decode cX4_manyIn 49 = .ok (.ireturn, 1) := sorry
abbrev cX4_mostAttempts : ByteArray := prog_16_method_77_code
def yX4_mostAttempts : MethodName := ⟨RX4, "mostAttempts", "()I"⟩
def dkwX4_mostAttempts_2 : List UInt8 := [180, 0, 7, 17, 1, 109, 29, 96, 46, 61, 132, 3, 1, 167, 255, 208, 27, 172]
abbrev dktX4_mostAttempts_2 : List UInt8 := dkwX4_mostAttempts_2 ++ []
def dkwX4_mostAttempts_1 : List UInt8 := [153, 0, 33, 42, 180, 0, 7, 17, 1, 109, 29, 96, 46, 28, 164, 0, 19, 29, 184, 1, 24, 60, 42]
abbrev dktX4_mostAttempts_1 : List UInt8 := dkwX4_mostAttempts_1 ++ dktX4_mostAttempts_2
def dkwX4_mostAttempts_0 : List UInt8 := [42, 3, 181, 0, 92, 2, 60, 3, 61, 3, 62, 29, 17, 0, 240, 162, 0, 47, 42, 29, 182, 1, 21]
abbrev dktX4_mostAttempts_0 : List UInt8 := dkwX4_mostAttempts_0 ++ dktX4_mostAttempts_1
theorem dksX4_mostAttempts_0 : cX4_mostAttempts.data.toList.drop 0 = dktX4_mostAttempts_0 := sorry
theorem dksX4_mostAttempts_1 : cX4_mostAttempts.data.toList.drop 23 = dktX4_mostAttempts_1 := sorry
theorem dksX4_mostAttempts_2 : cX4_mostAttempts.data.toList.drop 46 = dktX4_mostAttempts_2 := sorry
theorem dX4_mostAttempts_0 : decode cX4_mostAttempts 0 = .ok (.aload_n 0, 1) := sorry
theorem dX4_mostAttempts_1 : decode cX4_mostAttempts 1 = .ok (.iconst 0, 1) := sorry
theorem dX4_mostAttempts_2 : decode cX4_mostAttempts 2 = .ok (.putfield 92, 3) := sorry
theorem dX4_mostAttempts_5 : decode cX4_mostAttempts 5 = .ok (.iconst (-1), 1) := sorry
theorem dX4_mostAttempts_6 : decode cX4_mostAttempts 6 = .ok (.istore_n 1, 1) := sorry
theorem dX4_mostAttempts_7 : decode cX4_mostAttempts 7 = .ok (.iconst 0, 1) := sorry
theorem dX4_mostAttempts_8 : decode cX4_mostAttempts 8 = .ok (.istore_n 2, 1) := sorry
theorem dX4_mostAttempts_9 : decode cX4_mostAttempts 9 = .ok (.iconst 0, 1) := sorry
theorem dX4_mostAttempts_10 : decode cX4_mostAttempts 10 = .ok (.istore_n 3, 1) := sorry
theorem dX4_mostAttempts_11 : decode cX4_mostAttempts 11 = .ok (.iload_n 3, 1) := sorry
theorem dX4_mostAttempts_12 : decode cX4_mostAttempts 12 = .ok (.sipush 240, 3) := sorry
theorem dX4_mostAttempts_15 : decode cX4_mostAttempts 15 = .ok (.if_icmp .ge 47, 3) := sorry
theorem dX4_mostAttempts_18 : decode cX4_mostAttempts 18 = .ok (.aload_n 0, 1) := sorry
theorem dX4_mostAttempts_19 : decode cX4_mostAttempts 19 = .ok (.iload_n 3, 1) := sorry
theorem dX4_mostAttempts_20 : decode cX4_mostAttempts 20 = .ok (.invokevirtual 277, 3) := sorry
theorem dX4_mostAttempts_23 : decode cX4_mostAttempts 23 = .ok (.ifCond .eq 33, 3) := sorry
theorem dX4_mostAttempts_26 : decode cX4_mostAttempts 26 = .ok (.aload_n 0, 1) := sorry
theorem dX4_mostAttempts_27 : decode cX4_mostAttempts 27 = .ok (.getfield 7, 3) := sorry
theorem dX4_mostAttempts_30 : decode cX4_mostAttempts 30 = .ok (.sipush 365, 3) := sorry
theorem dX4_mostAttempts_33 : decode cX4_mostAttempts 33 = .ok (.iload_n 3, 1) := sorry
theorem dX4_mostAttempts_34 : decode cX4_mostAttempts 34 = .ok (.iadd, 1) := sorry
theorem dX4_mostAttempts_35 : decode cX4_mostAttempts 35 = .ok (.iaload, 1) := sorry
theorem dX4_mostAttempts_36 : decode cX4_mostAttempts 36 = .ok (.iload_n 2, 1) := sorry
theorem dX4_mostAttempts_37 : decode cX4_mostAttempts 37 = .ok (.if_icmp .le 19, 3) := sorry
theorem dX4_mostAttempts_40 : decode cX4_mostAttempts 40 = .ok (.iload_n 3, 1) := sorry
theorem dX4_mostAttempts_41 : decode cX4_mostAttempts 41 = .ok (.invokestatic 280, 3) := sorry
theorem dX4_mostAttempts_44 : decode cX4_mostAttempts 44 = .ok (.istore_n 1, 1) := sorry
theorem dX4_mostAttempts_45 : decode cX4_mostAttempts 45 = .ok (.aload_n 0, 1) := sorry
theorem dX4_mostAttempts_46 : decode cX4_mostAttempts 46 = .ok (.getfield 7, 3) := sorry
theorem dX4_mostAttempts_49 : decode cX4_mostAttempts 49 = .ok (.sipush 365, 3) := sorry
theorem dX4_mostAttempts_52 : decode cX4_mostAttempts 52 = .ok (.iload_n 3, 1) := sorry
theorem dX4_mostAttempts_53 : decode cX4_mostAttempts 53 = .ok (.iadd, 1) := sorry
theorem dX4_mostAttempts_54 : decode cX4_mostAttempts 54 = .ok (.iaload, 1) := sorry
theorem dX4_mostAttempts_55 : decode cX4_mostAttempts 55 = .ok (.istore_n 2, 1) := sorry
theorem dX4_mostAttempts_56 : decode cX4_mostAttempts 56 = .ok (.iinc 3 1, 3) := sorry
theorem dX4_mostAttempts_59 : decode cX4_mostAttempts 59 = .ok (.goto (-48), 3) := sorry
theorem dX4_mostAttempts_62 : decode cX4_mostAttempts 62 = .ok (.iload_n 1, 1) := sorry
theorem dX4_mostAttempts_63 : decode cX4_mostAttempts 63 = .ok (.ireturn, 1) := sorry
abbrev cX4_isThere : ByteArray := prog_16_method_67_code
def yX4_isThere : MethodName := ⟨RX4, "isThere", "(I)Z"⟩
def dkwX4_isThere_0 : List UInt8 := [42, 27, 16, 40, 108, 27, 16, 40, 112, 182, 1, 5, 172]
abbrev dktX4_isThere_0 : List UInt8 := dkwX4_isThere_0 ++ []
theorem dksX4_isThere_0 : cX4_isThere.data.toList.drop 0 = dktX4_isThere_0 := sorry
theorem dX4_isThere_0 : decode cX4_isThere 0 = .ok (.aload_n 0, 1) := sorry
theorem dX4_isThere_1 : decode cX4_isThere 1 = .ok (.iload_n 1, 1) := sorry
theorem dX4_isThere_2 : decode cX4_isThere 2 = .ok (.bipush 40, 2) := sorry
theorem dX4_isThere_4 : decode cX4_isThere 4 = .ok (.idiv, 1) := sorry
theorem dX4_isThere_5 : decode cX4_isThere 5 = .ok (.iload_n 1, 1) := sorry
theorem dX4_isThere_6 : decode cX4_isThere 6 = .ok (.bipush 40, 2) := sorry
theorem dX4_isThere_8 : decode cX4_isThere 8 = .ok (.irem, 1) := sorry
theorem dX4_isThere_9 : decode cX4_isThere 9 = .ok (.invokevirtual 261, 3) := sorry
theorem dX4_isThere_12 : decode cX4_isThere 12 = .ok (.ireturn, 1) := sorry
abbrev cX4_told : ByteArray := prog_16_method_66_code
def yX4_told : MethodName := ⟨RX4, "told", "(I)I"⟩
def dkwX4_told_0 : List UInt8 := [16, 100, 26, 16, 40, 108, 104, 26, 16, 40, 112, 96, 172]
abbrev dktX4_told_0 : List UInt8 := dkwX4_told_0 ++ []
theorem dksX4_told_0 : cX4_told.data.toList.drop 0 = dktX4_told_0 := sorry
theorem dX4_told_0 : decode cX4_told 0 = .ok (.bipush 100, 2) := sorry
theorem dX4_told_2 : decode cX4_told 2 = .ok (.iload_n 0, 1) := sorry
theorem dX4_told_3 : decode cX4_told 3 = .ok (.bipush 40, 2) := sorry
theorem dX4_told_5 : decode cX4_told 5 = .ok (.idiv, 1) := sorry
theorem dX4_told_6 : decode cX4_told 6 = .ok (.imul, 1) := sorry
theorem dX4_told_7 : decode cX4_told 7 = .ok (.iload_n 0, 1) := sorry
theorem dX4_told_8 : decode cX4_told 8 = .ok (.bipush 40, 2) := sorry
theorem dX4_told_10 : decode cX4_told 10 = .ok (.irem, 1) := sorry
theorem dX4_told_11 : decode cX4_told 11 = .ok (.iadd, 1) := sorry
theorem dX4_told_12 : decode cX4_told 12 = .ok (.ireturn, 1) := sorry
abbrev cX4_reprints : ByteArray := prog_16_method_78_code
def yX4_reprints : MethodName := ⟨RX4, "reprints", "()I"⟩
def dkwX4_reprints_0 : List UInt8 := [42, 3, 181, 0, 92, 42, 180, 0, 7, 16, 18, 46, 172]
abbrev dktX4_reprints_0 : List UInt8 := dkwX4_reprints_0 ++ []
theorem dksX4_reprints_0 : cX4_reprints.data.toList.drop 0 = dktX4_reprints_0 := sorry
theorem dX4_reprints_0 : decode cX4_reprints 0 = .ok (.aload_n 0, 1) := sorry
theorem dX4_reprints_1 : decode cX4_reprints 1 = .ok (.iconst 0, 1) := sorry
theorem dX4_reprints_2 : decode cX4_reprints 2 = .ok (.putfield 92, 3) := sorry
theorem dX4_reprints_5 : decode cX4_reprints 5 = .ok (.aload_n 0, 1) := sorry
theorem dX4_reprints_6 : decode cX4_reprints 6 = .ok (.getfield 7, 3) := sorry
theorem dX4_reprints_9 : decode cX4_reprints 9 = .ok (.bipush 18, 2) := sorry
theorem dX4_reprints_11 : decode cX4_reprints 11 = .ok (.iaload, 1) := sorry
theorem dX4_reprints_12 : decode cX4_reprints 12 = .ok (.ireturn, 1) := sorry
abbrev cX4_reprint : ByteArray := prog_16_method_79_code
def yX4_reprint : MethodName := ⟨RX4, "reprint", "(I)I"⟩
def dkwX4_reprint_1 : List UInt8 := [180, 0, 7, 17, 2, 93, 27, 96, 46, 184, 1, 24, 167, 0, 4, 2, 172]
abbrev dktX4_reprint_1 : List UInt8 := dkwX4_reprint_1 ++ []
def dkwX4_reprint_0 : List UInt8 := [42, 3, 181, 0, 92, 27, 3, 42, 180, 0, 7, 16, 18, 46, 4, 100, 184, 0, 115, 153, 0, 19, 42]
abbrev dktX4_reprint_0 : List UInt8 := dkwX4_reprint_0 ++ dktX4_reprint_1
theorem dksX4_reprint_0 : cX4_reprint.data.toList.drop 0 = dktX4_reprint_0 := sorry
theorem dksX4_reprint_1 : cX4_reprint.data.toList.drop 23 = dktX4_reprint_1 := sorry
theorem dX4_reprint_0 : decode cX4_reprint 0 = .ok (.aload_n 0, 1) := sorry
theorem dX4_reprint_1 : decode cX4_reprint 1 = .ok (.iconst 0, 1) := sorry
theorem dX4_reprint_2 : decode cX4_reprint 2 = .ok (.putfield 92, 3) := sorry
theorem dX4_reprint_5 : decode cX4_reprint 5 = .ok (.iload_n 1, 1) := sorry
theorem dX4_reprint_6 : decode cX4_reprint 6 = .ok (.iconst 0, 1) := sorry
theorem dX4_reprint_7 : decode cX4_reprint 7 = .ok (.aload_n 0, 1) := sorry
theorem dX4_reprint_8 : decode cX4_reprint 8 = .ok (.getfield 7, 3) := sorry
theorem dX4_reprint_11 : decode cX4_reprint 11 = .ok (.bipush 18, 2) := sorry
theorem dX4_reprint_13 : decode cX4_reprint 13 = .ok (.iaload, 1) := sorry
theorem dX4_reprint_14 : decode cX4_reprint 14 = .ok (.iconst 1, 1) := sorry
theorem dX4_reprint_15 : decode cX4_reprint 15 = .ok (.isub, 1) := sorry
theorem dX4_reprint_16 : decode cX4_reprint 16 = .ok (.invokestatic 115, 3) := sorry
theorem dX4_reprint_19 : decode cX4_reprint 19 = .ok (.ifCond .eq 19, 3) := sorry
theorem dX4_reprint_22 : decode cX4_reprint 22 = .ok (.aload_n 0, 1) := sorry
theorem dX4_reprint_23 : decode cX4_reprint 23 = .ok (.getfield 7, 3) := sorry
theorem dX4_reprint_26 : decode cX4_reprint 26 = .ok (.sipush 605, 3) := sorry
theorem dX4_reprint_29 : decode cX4_reprint 29 = .ok (.iload_n 1, 1) := sorry
theorem dX4_reprint_30 : decode cX4_reprint 30 = .ok (.iadd, 1) := sorry
theorem dX4_reprint_31 : decode cX4_reprint 31 = .ok (.iaload, 1) := sorry
theorem dX4_reprint_32 : decode cX4_reprint 32 = .ok (.invokestatic 280, 3) := sorry
theorem dX4_reprint_35 : decode cX4_reprint 35 = .ok (.goto 4, 3) := sorry
theorem dX4_reprint_38 : decode cX4_reprint 38 = .ok (.iconst (-1), 1) := sorry
theorem dX4_reprint_39 : decode cX4_reprint 39 = .ok (.ireturn, 1) := sorry
abbrev cX4_nextSerial : ByteArray := prog_16_method_81_code
def yX4_nextSerial : MethodName := ⟨RX4, "nextSerial", "()I"⟩
def dkwX4_nextSerial_0 : List UInt8 := [42, 3, 181, 0, 92, 42, 182, 1, 27, 60, 27, 2, 160, 0, 7, 2, 167, 0, 7, 27, 184, 1, 24, 172]
abbrev dktX4_nextSerial_0 : List UInt8 := dkwX4_nextSerial_0 ++ []
theorem dksX4_nextSerial_0 : cX4_nextSerial.data.toList.drop 0 = dktX4_nextSerial_0 := sorry
theorem dX4_nextSerial_0 : decode cX4_nextSerial 0 = .ok (.aload_n 0, 1) := sorry
theorem dX4_nextSerial_1 : decode cX4_nextSerial 1 = .ok (.iconst 0, 1) := sorry
theorem dX4_nextSerial_2 : decode cX4_nextSerial 2 = .ok (.putfield 92, 3) := sorry
theorem dX4_nextSerial_5 : decode cX4_nextSerial 5 = .ok (.aload_n 0, 1) := sorry
theorem dX4_nextSerial_6 : decode cX4_nextSerial 6 = .ok (.invokevirtual 283, 3) := sorry
theorem dX4_nextSerial_9 : decode cX4_nextSerial 9 = .ok (.istore_n 1, 1) := sorry
theorem dX4_nextSerial_10 : decode cX4_nextSerial 10 = .ok (.iload_n 1, 1) := sorry
theorem dX4_nextSerial_11 : decode cX4_nextSerial 11 = .ok (.iconst (-1), 1) := sorry
theorem dX4_nextSerial_12 : decode cX4_nextSerial 12 = .ok (.if_icmp .ne 7, 3) := sorry
theorem dX4_nextSerial_15 : decode cX4_nextSerial 15 = .ok (.iconst (-1), 1) := sorry
theorem dX4_nextSerial_16 : decode cX4_nextSerial 16 = .ok (.goto 7, 3) := sorry
theorem dX4_nextSerial_19 : decode cX4_nextSerial 19 = .ok (.iload_n 1, 1) := sorry
theorem dX4_nextSerial_20 : decode cX4_nextSerial 20 = .ok (.invokestatic 280, 3) := sorry
theorem dX4_nextSerial_23 : decode cX4_nextSerial 23 = .ok (.ireturn, 1) := sorry
abbrev cX4_next : ByteArray := prog_16_method_80_code
def yX4_next : MethodName := ⟨RX4, "next", "()I"⟩
def dkwX4_next_2 : List UInt8 := [154, 0, 5, 27, 172, 132, 1, 1, 167, 255, 224, 2, 172]
abbrev dktX4_next_2 : List UInt8 := dkwX4_next_2 ++ []
def dkwX4_next_1 : List UInt8 := [17, 0, 240, 162, 0, 31, 42, 27, 182, 1, 21, 153, 0, 17, 42, 180, 0, 7, 16, 125, 27, 96, 46]
abbrev dktX4_next_1 : List UInt8 := dkwX4_next_1 ++ dktX4_next_2
def dkwX4_next_0 : List UInt8 := [42, 180, 0, 7, 16, 18, 46, 158, 0, 12, 42, 180, 0, 7, 17, 2, 93, 46, 172, 3, 60, 27]
abbrev dktX4_next_0 : List UInt8 := dkwX4_next_0 ++ dktX4_next_1
theorem dksX4_next_0 : cX4_next.data.toList.drop 0 = dktX4_next_0 := sorry
theorem dksX4_next_1 : cX4_next.data.toList.drop 22 = dktX4_next_1 := sorry
theorem dksX4_next_2 : cX4_next.data.toList.drop 45 = dktX4_next_2 := sorry
theorem dX4_next_0 : decode cX4_next 0 = .ok (.aload_n 0, 1) := sorry
theorem dX4_next_1 : decode cX4_next 1 = .ok (.getfield 7, 3) := sorry
theorem dX4_next_4 : decode cX4_next 4 = .ok (.bipush 18, 2) := sorry
theorem dX4_next_6 : decode cX4_next 6 = .ok (.iaload, 1) := sorry
theorem dX4_next_7 : decode cX4_next 7 = .ok (.ifCond .le 12, 3) := sorry
theorem dX4_next_10 : decode cX4_next 10 = .ok (.aload_n 0, 1) := sorry
theorem dX4_next_11 : decode cX4_next 11 = .ok (.getfield 7, 3) := sorry
theorem dX4_next_14 : decode cX4_next 14 = .ok (.sipush 605, 3) := sorry
theorem dX4_next_17 : decode cX4_next 17 = .ok (.iaload, 1) := sorry
theorem dX4_next_18 : decode cX4_next 18 = .ok (.ireturn, 1) := sorry
theorem dX4_next_19 : decode cX4_next 19 = .ok (.iconst 0, 1) := sorry
theorem dX4_next_20 : decode cX4_next 20 = .ok (.istore_n 1, 1) := sorry
theorem dX4_next_21 : decode cX4_next 21 = .ok (.iload_n 1, 1) := sorry
theorem dX4_next_22 : decode cX4_next 22 = .ok (.sipush 240, 3) := sorry
theorem dX4_next_25 : decode cX4_next 25 = .ok (.if_icmp .ge 31, 3) := sorry
theorem dX4_next_28 : decode cX4_next 28 = .ok (.aload_n 0, 1) := sorry
theorem dX4_next_29 : decode cX4_next 29 = .ok (.iload_n 1, 1) := sorry
theorem dX4_next_30 : decode cX4_next 30 = .ok (.invokevirtual 277, 3) := sorry
theorem dX4_next_33 : decode cX4_next 33 = .ok (.ifCond .eq 17, 3) := sorry
theorem dX4_next_36 : decode cX4_next 36 = .ok (.aload_n 0, 1) := sorry
theorem dX4_next_37 : decode cX4_next 37 = .ok (.getfield 7, 3) := sorry
theorem dX4_next_40 : decode cX4_next 40 = .ok (.bipush 125, 2) := sorry
theorem dX4_next_42 : decode cX4_next 42 = .ok (.iload_n 1, 1) := sorry
theorem dX4_next_43 : decode cX4_next 43 = .ok (.iadd, 1) := sorry
theorem dX4_next_44 : decode cX4_next 44 = .ok (.iaload, 1) := sorry
theorem dX4_next_45 : decode cX4_next 45 = .ok (.ifCond .ne 5, 3) := sorry
theorem dX4_next_48 : decode cX4_next 48 = .ok (.iload_n 1, 1) := sorry
theorem dX4_next_49 : decode cX4_next 49 = .ok (.ireturn, 1) := sorry
theorem dX4_next_50 : decode cX4_next 50 = .ok (.iinc 1 1, 3) := sorry
theorem dX4_next_53 : decode cX4_next 53 = .ok (.goto (-32), 3) := sorry
theorem dX4_next_56 : decode cX4_next 56 = .ok (.iconst (-1), 1) := sorry
theorem dX4_next_57 : decode cX4_next 57 = .ok (.ireturn, 1) := sorry
abbrev cX4_printedAs : ByteArray := prog_16_method_82_code
def yX4_printedAs : MethodName := ⟨RX4, "printedAs", "(I)I"⟩
def dkwX4_printedAs_3 : List UInt8 := [184, 1, 24, 172, 132, 2, 1, 167, 255, 204, 42, 180, 0, 92, 158, 0, 7, 3, 167, 0, 4, 2, 172]
abbrev dktX4_printedAs_3 : List UInt8 := dkwX4_printedAs_3 ++ []
def dkwX4_printedAs_2 : List UInt8 := [180, 0, 7, 16, 125, 28, 96, 46, 4, 160, 0, 17, 42, 28, 182, 1, 12, 27, 160, 0, 8, 28]
abbrev dktX4_printedAs_2 : List UInt8 := dkwX4_printedAs_2 ++ dktX4_printedAs_3
def dkwX4_printedAs_1 : List UInt8 := [180, 0, 92, 154, 0, 51, 28, 17, 0, 240, 162, 0, 44, 42, 28, 182, 1, 21, 153, 0, 30, 42]
abbrev dktX4_printedAs_1 : List UInt8 := dkwX4_printedAs_1 ++ dktX4_printedAs_2
def dkwX4_printedAs_0 : List UInt8 := [42, 27, 3, 18, 162, 184, 0, 115, 153, 0, 7, 3, 167, 0, 4, 4, 181, 0, 92, 3, 61, 42]
abbrev dktX4_printedAs_0 : List UInt8 := dkwX4_printedAs_0 ++ dktX4_printedAs_1
theorem dksX4_printedAs_0 : cX4_printedAs.data.toList.drop 0 = dktX4_printedAs_0 := sorry
theorem dksX4_printedAs_1 : cX4_printedAs.data.toList.drop 22 = dktX4_printedAs_1 := sorry
theorem dksX4_printedAs_2 : cX4_printedAs.data.toList.drop 44 = dktX4_printedAs_2 := sorry
theorem dksX4_printedAs_3 : cX4_printedAs.data.toList.drop 66 = dktX4_printedAs_3 := sorry
theorem dX4_printedAs_0 : decode cX4_printedAs 0 = .ok (.aload_n 0, 1) := sorry
theorem dX4_printedAs_1 : decode cX4_printedAs 1 = .ok (.iload_n 1, 1) := sorry
theorem dX4_printedAs_2 : decode cX4_printedAs 2 = .ok (.iconst 0, 1) := sorry
theorem dX4_printedAs_3 : decode cX4_printedAs 3 = .ok (.ldc 162, 2) := sorry
theorem dX4_printedAs_5 : decode cX4_printedAs 5 = .ok (.invokestatic 115, 3) := sorry
theorem dX4_printedAs_8 : decode cX4_printedAs 8 = .ok (.ifCond .eq 7, 3) := sorry
theorem dX4_printedAs_11 : decode cX4_printedAs 11 = .ok (.iconst 0, 1) := sorry
theorem dX4_printedAs_12 : decode cX4_printedAs 12 = .ok (.goto 4, 3) := sorry
theorem dX4_printedAs_15 : decode cX4_printedAs 15 = .ok (.iconst 1, 1) := sorry
theorem dX4_printedAs_16 : decode cX4_printedAs 16 = .ok (.putfield 92, 3) := sorry
theorem dX4_printedAs_19 : decode cX4_printedAs 19 = .ok (.iconst 0, 1) := sorry
theorem dX4_printedAs_20 : decode cX4_printedAs 20 = .ok (.istore_n 2, 1) := sorry
theorem dX4_printedAs_21 : decode cX4_printedAs 21 = .ok (.aload_n 0, 1) := sorry
theorem dX4_printedAs_22 : decode cX4_printedAs 22 = .ok (.getfield 92, 3) := sorry
theorem dX4_printedAs_25 : decode cX4_printedAs 25 = .ok (.ifCond .ne 51, 3) := sorry
theorem dX4_printedAs_28 : decode cX4_printedAs 28 = .ok (.iload_n 2, 1) := sorry
theorem dX4_printedAs_29 : decode cX4_printedAs 29 = .ok (.sipush 240, 3) := sorry
theorem dX4_printedAs_32 : decode cX4_printedAs 32 = .ok (.if_icmp .ge 44, 3) := sorry
theorem dX4_printedAs_35 : decode cX4_printedAs 35 = .ok (.aload_n 0, 1) := sorry
theorem dX4_printedAs_36 : decode cX4_printedAs 36 = .ok (.iload_n 2, 1) := sorry
theorem dX4_printedAs_37 : decode cX4_printedAs 37 = .ok (.invokevirtual 277, 3) := sorry
theorem dX4_printedAs_40 : decode cX4_printedAs 40 = .ok (.ifCond .eq 30, 3) := sorry
theorem dX4_printedAs_43 : decode cX4_printedAs 43 = .ok (.aload_n 0, 1) := sorry
theorem dX4_printedAs_44 : decode cX4_printedAs 44 = .ok (.getfield 7, 3) := sorry
theorem dX4_printedAs_47 : decode cX4_printedAs 47 = .ok (.bipush 125, 2) := sorry
theorem dX4_printedAs_49 : decode cX4_printedAs 49 = .ok (.iload_n 2, 1) := sorry
theorem dX4_printedAs_50 : decode cX4_printedAs 50 = .ok (.iadd, 1) := sorry
theorem dX4_printedAs_51 : decode cX4_printedAs 51 = .ok (.iaload, 1) := sorry
theorem dX4_printedAs_52 : decode cX4_printedAs 52 = .ok (.iconst 1, 1) := sorry
theorem dX4_printedAs_53 : decode cX4_printedAs 53 = .ok (.if_icmp .ne 17, 3) := sorry
theorem dX4_printedAs_56 : decode cX4_printedAs 56 = .ok (.aload_n 0, 1) := sorry
theorem dX4_printedAs_57 : decode cX4_printedAs 57 = .ok (.iload_n 2, 1) := sorry
theorem dX4_printedAs_58 : decode cX4_printedAs 58 = .ok (.invokevirtual 268, 3) := sorry
theorem dX4_printedAs_61 : decode cX4_printedAs 61 = .ok (.iload_n 1, 1) := sorry
theorem dX4_printedAs_62 : decode cX4_printedAs 62 = .ok (.if_icmp .ne 8, 3) := sorry
theorem dX4_printedAs_65 : decode cX4_printedAs 65 = .ok (.iload_n 2, 1) := sorry
theorem dX4_printedAs_66 : decode cX4_printedAs 66 = .ok (.invokestatic 280, 3) := sorry
theorem dX4_printedAs_69 : decode cX4_printedAs 69 = .ok (.ireturn, 1) := sorry
theorem dX4_printedAs_70 : decode cX4_printedAs 70 = .ok (.iinc 2 1, 3) := sorry
theorem dX4_printedAs_73 : decode cX4_printedAs 73 = .ok (.goto (-52), 3) := sorry
theorem dX4_printedAs_76 : decode cX4_printedAs 76 = .ok (.aload_n 0, 1) := sorry
theorem dX4_printedAs_77 : decode cX4_printedAs 77 = .ok (.getfield 92, 3) := sorry
theorem dX4_printedAs_80 : decode cX4_printedAs 80 = .ok (.ifCond .le 7, 3) := sorry
theorem dX4_printedAs_83 : decode cX4_printedAs 83 = .ok (.iconst 0, 1) := sorry
theorem dX4_printedAs_84 : decode cX4_printedAs 84 = .ok (.goto 4, 3) := sorry
theorem dX4_printedAs_87 : decode cX4_printedAs 87 = .ok (.iconst (-1), 1) := sorry
theorem dX4_printedAs_88 : decode cX4_printedAs 88 = .ok (.ireturn, 1) := sorry
abbrev cX4_verify : ByteArray := prog_16_method_83_code
def yX4_verify : MethodName := ⟨RX4, "verify", "(III)I"⟩
def dkwX4_verify_6 : List UInt8 := [184, 1, 15, 29, 159, 0, 5, 5, 172, 21, 5, 153, 0, 7, 3, 167, 0, 4, 6, 172]
abbrev dktX4_verify_6 : List UInt8 := dkwX4_verify_6 ++ []
def dkwX4_verify_5 : List UInt8 := [132, 6, 1, 167, 255, 169, 21, 4, 154, 0, 5, 4, 172, 42, 180, 0, 48, 27, 51, 153, 0, 13, 28]
abbrev dktX4_verify_5 : List UInt8 := dkwX4_verify_5 ++ dktX4_verify_6
def dkwX4_verify_4 : List UInt8 := [180, 0, 7, 16, 125, 27, 21, 6, 184, 1, 9, 96, 46, 4, 160, 0, 7, 4, 167, 0, 4, 3, 54, 5]
abbrev dktX4_verify_4 : List UInt8 := dkwX4_verify_4 ++ dktX4_verify_5
def dkwX4_verify_3 : List UInt8 := [21, 7, 153, 0, 7, 4, 167, 0, 4, 3, 54, 4, 21, 5, 154, 0, 26, 21, 7, 153, 0, 25, 42]
abbrev dktX4_verify_3 : List UInt8 := dkwX4_verify_3 ++ dktX4_verify_4
def dkwX4_verify_2 : List UInt8 := [21, 6, 184, 1, 9, 182, 1, 12, 28, 160, 0, 7, 4, 167, 0, 4, 3, 54, 7, 21, 4, 154, 0, 8]
abbrev dktX4_verify_2 : List UInt8 := dkwX4_verify_2 ++ dktX4_verify_3
def dkwX4_verify_1 : List UInt8 := [3, 172, 3, 54, 4, 3, 54, 5, 3, 54, 6, 21, 6, 42, 180, 0, 39, 27, 46, 162, 0, 82, 42, 27]
abbrev dktX4_verify_1 : List UInt8 := dkwX4_verify_1 ++ dktX4_verify_2
def dkwX4_verify_0 : List UInt8 := [42, 42, 27, 182, 1, 2, 153, 0, 7, 3, 167, 0, 4, 4, 181, 0, 92, 42, 180, 0, 92, 158, 0, 5]
abbrev dktX4_verify_0 : List UInt8 := dkwX4_verify_0 ++ dktX4_verify_1
theorem dksX4_verify_0 : cX4_verify.data.toList.drop 0 = dktX4_verify_0 := sorry
theorem dksX4_verify_1 : cX4_verify.data.toList.drop 24 = dktX4_verify_1 := sorry
theorem dksX4_verify_2 : cX4_verify.data.toList.drop 48 = dktX4_verify_2 := sorry
theorem dksX4_verify_3 : cX4_verify.data.toList.drop 72 = dktX4_verify_3 := sorry
theorem dksX4_verify_4 : cX4_verify.data.toList.drop 95 = dktX4_verify_4 := sorry
theorem dksX4_verify_5 : cX4_verify.data.toList.drop 119 = dktX4_verify_5 := sorry
theorem dksX4_verify_6 : cX4_verify.data.toList.drop 142 = dktX4_verify_6 := sorry
theorem dX4_verify_0 : decode cX4_verify 0 = .ok (.aload_n 0, 1) := sorry
theorem dX4_verify_1 : decode cX4_verify 1 = .ok (.aload_n 0, 1) := sorry
theorem dX4_verify_2 : decode cX4_verify 2 = .ok (.iload_n 1, 1) := sorry
theorem dX4_verify_3 : decode cX4_verify 3 = .ok (.invokevirtual 258, 3) := sorry
theorem dX4_verify_6 : decode cX4_verify 6 = .ok (.ifCond .eq 7, 3) := sorry
theorem dX4_verify_9 : decode cX4_verify 9 = .ok (.iconst 0, 1) := sorry
theorem dX4_verify_10 : decode cX4_verify 10 = .ok (.goto 4, 3) := sorry
theorem dX4_verify_13 : decode cX4_verify 13 = .ok (.iconst 1, 1) := sorry
theorem dX4_verify_14 : decode cX4_verify 14 = .ok (.putfield 92, 3) := sorry
theorem dX4_verify_17 : decode cX4_verify 17 = .ok (.aload_n 0, 1) := sorry
theorem dX4_verify_18 : decode cX4_verify 18 = .ok (.getfield 92, 3) := sorry
theorem dX4_verify_21 : decode cX4_verify 21 = .ok (.ifCond .le 5, 3) := sorry
theorem dX4_verify_24 : decode cX4_verify 24 = .ok (.iconst 0, 1) := sorry
theorem dX4_verify_25 : decode cX4_verify 25 = .ok (.ireturn, 1) := sorry
theorem dX4_verify_26 : decode cX4_verify 26 = .ok (.iconst 0, 1) := sorry
theorem dX4_verify_27 : decode cX4_verify 27 = .ok (.istore 4, 2) := sorry
theorem dX4_verify_29 : decode cX4_verify 29 = .ok (.iconst 0, 1) := sorry
theorem dX4_verify_30 : decode cX4_verify 30 = .ok (.istore 5, 2) := sorry
theorem dX4_verify_32 : decode cX4_verify 32 = .ok (.iconst 0, 1) := sorry
theorem dX4_verify_33 : decode cX4_verify 33 = .ok (.istore 6, 2) := sorry
theorem dX4_verify_35 : decode cX4_verify 35 = .ok (.iload 6, 2) := sorry
theorem dX4_verify_37 : decode cX4_verify 37 = .ok (.aload_n 0, 1) := sorry
theorem dX4_verify_38 : decode cX4_verify 38 = .ok (.getfield 39, 3) := sorry
theorem dX4_verify_41 : decode cX4_verify 41 = .ok (.iload_n 1, 1) := sorry
theorem dX4_verify_42 : decode cX4_verify 42 = .ok (.iaload, 1) := sorry
theorem dX4_verify_43 : decode cX4_verify 43 = .ok (.if_icmp .ge 82, 3) := sorry
theorem dX4_verify_46 : decode cX4_verify 46 = .ok (.aload_n 0, 1) := sorry
theorem dX4_verify_47 : decode cX4_verify 47 = .ok (.iload_n 1, 1) := sorry
theorem dX4_verify_48 : decode cX4_verify 48 = .ok (.iload 6, 2) := sorry
theorem dX4_verify_50 : decode cX4_verify 50 = .ok (.invokestatic 265, 3) := sorry
theorem dX4_verify_53 : decode cX4_verify 53 = .ok (.invokevirtual 268, 3) := sorry
theorem dX4_verify_56 : decode cX4_verify 56 = .ok (.iload_n 2, 1) := sorry
theorem dX4_verify_57 : decode cX4_verify 57 = .ok (.if_icmp .ne 7, 3) := sorry
theorem dX4_verify_60 : decode cX4_verify 60 = .ok (.iconst 1, 1) := sorry
theorem dX4_verify_61 : decode cX4_verify 61 = .ok (.goto 4, 3) := sorry
theorem dX4_verify_64 : decode cX4_verify 64 = .ok (.iconst 0, 1) := sorry
theorem dX4_verify_65 : decode cX4_verify 65 = .ok (.istore 7, 2) := sorry
theorem dX4_verify_67 : decode cX4_verify 67 = .ok (.iload 4, 2) := sorry
theorem dX4_verify_69 : decode cX4_verify 69 = .ok (.ifCond .ne 8, 3) := sorry
theorem dX4_verify_72 : decode cX4_verify 72 = .ok (.iload 7, 2) := sorry
theorem dX4_verify_74 : decode cX4_verify 74 = .ok (.ifCond .eq 7, 3) := sorry
theorem dX4_verify_77 : decode cX4_verify 77 = .ok (.iconst 1, 1) := sorry
theorem dX4_verify_78 : decode cX4_verify 78 = .ok (.goto 4, 3) := sorry
theorem dX4_verify_81 : decode cX4_verify 81 = .ok (.iconst 0, 1) := sorry
theorem dX4_verify_82 : decode cX4_verify 82 = .ok (.istore 4, 2) := sorry
theorem dX4_verify_84 : decode cX4_verify 84 = .ok (.iload 5, 2) := sorry
theorem dX4_verify_86 : decode cX4_verify 86 = .ok (.ifCond .ne 26, 3) := sorry
theorem dX4_verify_89 : decode cX4_verify 89 = .ok (.iload 7, 2) := sorry
theorem dX4_verify_91 : decode cX4_verify 91 = .ok (.ifCond .eq 25, 3) := sorry
theorem dX4_verify_94 : decode cX4_verify 94 = .ok (.aload_n 0, 1) := sorry
theorem dX4_verify_95 : decode cX4_verify 95 = .ok (.getfield 7, 3) := sorry
theorem dX4_verify_98 : decode cX4_verify 98 = .ok (.bipush 125, 2) := sorry
theorem dX4_verify_100 : decode cX4_verify 100 = .ok (.iload_n 1, 1) := sorry
theorem dX4_verify_101 : decode cX4_verify 101 = .ok (.iload 6, 2) := sorry
theorem dX4_verify_103 : decode cX4_verify 103 = .ok (.invokestatic 265, 3) := sorry
theorem dX4_verify_106 : decode cX4_verify 106 = .ok (.iadd, 1) := sorry
theorem dX4_verify_107 : decode cX4_verify 107 = .ok (.iaload, 1) := sorry
theorem dX4_verify_108 : decode cX4_verify 108 = .ok (.iconst 1, 1) := sorry
theorem dX4_verify_109 : decode cX4_verify 109 = .ok (.if_icmp .ne 7, 3) := sorry
theorem dX4_verify_112 : decode cX4_verify 112 = .ok (.iconst 1, 1) := sorry
theorem dX4_verify_113 : decode cX4_verify 113 = .ok (.goto 4, 3) := sorry
theorem dX4_verify_116 : decode cX4_verify 116 = .ok (.iconst 0, 1) := sorry
theorem dX4_verify_117 : decode cX4_verify 117 = .ok (.istore 5, 2) := sorry
theorem dX4_verify_119 : decode cX4_verify 119 = .ok (.iinc 6 1, 3) := sorry
theorem dX4_verify_122 : decode cX4_verify 122 = .ok (.goto (-87), 3) := sorry
theorem dX4_verify_125 : decode cX4_verify 125 = .ok (.iload 4, 2) := sorry
theorem dX4_verify_127 : decode cX4_verify 127 = .ok (.ifCond .ne 5, 3) := sorry
theorem dX4_verify_130 : decode cX4_verify 130 = .ok (.iconst 1, 1) := sorry
theorem dX4_verify_131 : decode cX4_verify 131 = .ok (.ireturn, 1) := sorry
theorem dX4_verify_132 : decode cX4_verify 132 = .ok (.aload_n 0, 1) := sorry
theorem dX4_verify_133 : decode cX4_verify 133 = .ok (.getfield 48, 3) := sorry
theorem dX4_verify_136 : decode cX4_verify 136 = .ok (.iload_n 1, 1) := sorry
theorem dX4_verify_137 : decode cX4_verify 137 = .ok (.baload, 1) := sorry
theorem dX4_verify_138 : decode cX4_verify 138 = .ok (.ifCond .eq 13, 3) := sorry
theorem dX4_verify_141 : decode cX4_verify 141 = .ok (.iload_n 2, 1) := sorry
theorem dX4_verify_142 : decode cX4_verify 142 = .ok (.invokestatic 271, 3) := sorry
theorem dX4_verify_145 : decode cX4_verify 145 = .ok (.iload_n 3, 1) := sorry
theorem dX4_verify_146 : decode cX4_verify 146 = .ok (.if_icmp .eq 5, 3) := sorry
theorem dX4_verify_149 : decode cX4_verify 149 = .ok (.iconst 2, 1) := sorry
theorem dX4_verify_150 : decode cX4_verify 150 = .ok (.ireturn, 1) := sorry
theorem dX4_verify_151 : decode cX4_verify 151 = .ok (.iload 5, 2) := sorry
theorem dX4_verify_153 : decode cX4_verify 153 = .ok (.ifCond .eq 7, 3) := sorry
theorem dX4_verify_156 : decode cX4_verify 156 = .ok (.iconst 0, 1) := sorry
theorem dX4_verify_157 : decode cX4_verify 157 = .ok (.goto 4, 3) := sorry
theorem dX4_verify_160 : decode cX4_verify 160 = .ok (.iconst 3, 1) := sorry
theorem dX4_verify_161 : decode cX4_verify 161 = .ok (.ireturn, 1) := sorry
abbrev cX4_doubles : ByteArray := prog_16_method_84_code
def yX4_doubles : MethodName := ⟨RX4, "doubles", "()I"⟩
def dkwX4_doubles_5 : List UInt8 := [3, 96, 60, 132, 2, 1, 167, 255, 143, 27, 172]
abbrev dktX4_doubles_5 : List UInt8 := dkwX4_doubles_5 ++ []
def dkwX4_doubles_4 : List UInt8 := [160, 0, 7, 4, 167, 0, 4, 3, 62, 132, 4, 1, 167, 255, 173, 27, 29, 153, 0, 7, 4, 167, 0, 4]
abbrev dktX4_doubles_4 : List UInt8 := dkwX4_doubles_4 ++ dktX4_doubles_5
def dkwX4_doubles_3 : List UInt8 := [180, 0, 7, 16, 125, 21, 4, 96, 46, 153, 0, 21, 42, 21, 4, 182, 1, 12, 42, 28, 182, 1, 12]
abbrev dktX4_doubles_3 : List UInt8 := dkwX4_doubles_3 ++ dktX4_doubles_4
def dkwX4_doubles_2 : List UInt8 := [153, 0, 61, 29, 154, 0, 45, 21, 4, 28, 159, 0, 43, 42, 21, 4, 182, 1, 21, 153, 0, 34, 42]
abbrev dktX4_doubles_2 : List UInt8 := dkwX4_doubles_2 ++ dktX4_doubles_3
def dkwX4_doubles_1 : List UInt8 := [17, 0, 240, 162, 0, 81, 42, 28, 182, 1, 21, 153, 0, 73, 42, 180, 0, 7, 16, 125, 28, 96, 46]
abbrev dktX4_doubles_1 : List UInt8 := dkwX4_doubles_1 ++ dktX4_doubles_2
def dkwX4_doubles_0 : List UInt8 := [42, 3, 181, 0, 92, 3, 60, 3, 61, 28, 17, 0, 240, 162, 0, 112, 3, 62, 3, 54, 4, 21, 4]
abbrev dktX4_doubles_0 : List UInt8 := dkwX4_doubles_0 ++ dktX4_doubles_1
theorem dksX4_doubles_0 : cX4_doubles.data.toList.drop 0 = dktX4_doubles_0 := sorry
theorem dksX4_doubles_1 : cX4_doubles.data.toList.drop 23 = dktX4_doubles_1 := sorry
theorem dksX4_doubles_2 : cX4_doubles.data.toList.drop 46 = dktX4_doubles_2 := sorry
theorem dksX4_doubles_3 : cX4_doubles.data.toList.drop 69 = dktX4_doubles_3 := sorry
theorem dksX4_doubles_4 : cX4_doubles.data.toList.drop 92 = dktX4_doubles_4 := sorry
theorem dksX4_doubles_5 : cX4_doubles.data.toList.drop 116 = dktX4_doubles_5 := sorry
theorem dX4_doubles_0 : decode cX4_doubles 0 = .ok (.aload_n 0, 1) := sorry
theorem dX4_doubles_1 : decode cX4_doubles 1 = .ok (.iconst 0, 1) := sorry
theorem dX4_doubles_2 : decode cX4_doubles 2 = .ok (.putfield 92, 3) := sorry
theorem dX4_doubles_5 : decode cX4_doubles 5 = .ok (.iconst 0, 1) := sorry
theorem dX4_doubles_6 : decode cX4_doubles 6 = .ok (.istore_n 1, 1) := sorry
theorem dX4_doubles_7 : decode cX4_doubles 7 = .ok (.iconst 0, 1) := sorry
theorem dX4_doubles_8 : decode cX4_doubles 8 = .ok (.istore_n 2, 1) := sorry
theorem dX4_doubles_9 : decode cX4_doubles 9 = .ok (.iload_n 2, 1) := sorry
theorem dX4_doubles_10 : decode cX4_doubles 10 = .ok (.sipush 240, 3) := sorry
theorem dX4_doubles_13 : decode cX4_doubles 13 = .ok (.if_icmp .ge 112, 3) := sorry
theorem dX4_doubles_16 : decode cX4_doubles 16 = .ok (.iconst 0, 1) := sorry
theorem dX4_doubles_17 : decode cX4_doubles 17 = .ok (.istore_n 3, 1) := sorry
theorem dX4_doubles_18 : decode cX4_doubles 18 = .ok (.iconst 0, 1) := sorry
theorem dX4_doubles_19 : decode cX4_doubles 19 = .ok (.istore 4, 2) := sorry
theorem dX4_doubles_21 : decode cX4_doubles 21 = .ok (.iload 4, 2) := sorry
theorem dX4_doubles_23 : decode cX4_doubles 23 = .ok (.sipush 240, 3) := sorry
theorem dX4_doubles_26 : decode cX4_doubles 26 = .ok (.if_icmp .ge 81, 3) := sorry
theorem dX4_doubles_29 : decode cX4_doubles 29 = .ok (.aload_n 0, 1) := sorry
theorem dX4_doubles_30 : decode cX4_doubles 30 = .ok (.iload_n 2, 1) := sorry
theorem dX4_doubles_31 : decode cX4_doubles 31 = .ok (.invokevirtual 277, 3) := sorry
theorem dX4_doubles_34 : decode cX4_doubles 34 = .ok (.ifCond .eq 73, 3) := sorry
theorem dX4_doubles_37 : decode cX4_doubles 37 = .ok (.aload_n 0, 1) := sorry
theorem dX4_doubles_38 : decode cX4_doubles 38 = .ok (.getfield 7, 3) := sorry
theorem dX4_doubles_41 : decode cX4_doubles 41 = .ok (.bipush 125, 2) := sorry
theorem dX4_doubles_43 : decode cX4_doubles 43 = .ok (.iload_n 2, 1) := sorry
theorem dX4_doubles_44 : decode cX4_doubles 44 = .ok (.iadd, 1) := sorry
theorem dX4_doubles_45 : decode cX4_doubles 45 = .ok (.iaload, 1) := sorry
theorem dX4_doubles_46 : decode cX4_doubles 46 = .ok (.ifCond .eq 61, 3) := sorry
theorem dX4_doubles_49 : decode cX4_doubles 49 = .ok (.iload_n 3, 1) := sorry
theorem dX4_doubles_50 : decode cX4_doubles 50 = .ok (.ifCond .ne 45, 3) := sorry
theorem dX4_doubles_53 : decode cX4_doubles 53 = .ok (.iload 4, 2) := sorry
theorem dX4_doubles_55 : decode cX4_doubles 55 = .ok (.iload_n 2, 1) := sorry
theorem dX4_doubles_56 : decode cX4_doubles 56 = .ok (.if_icmp .eq 43, 3) := sorry
theorem dX4_doubles_59 : decode cX4_doubles 59 = .ok (.aload_n 0, 1) := sorry
theorem dX4_doubles_60 : decode cX4_doubles 60 = .ok (.iload 4, 2) := sorry
theorem dX4_doubles_62 : decode cX4_doubles 62 = .ok (.invokevirtual 277, 3) := sorry
theorem dX4_doubles_65 : decode cX4_doubles 65 = .ok (.ifCond .eq 34, 3) := sorry
theorem dX4_doubles_68 : decode cX4_doubles 68 = .ok (.aload_n 0, 1) := sorry
theorem dX4_doubles_69 : decode cX4_doubles 69 = .ok (.getfield 7, 3) := sorry
theorem dX4_doubles_72 : decode cX4_doubles 72 = .ok (.bipush 125, 2) := sorry
theorem dX4_doubles_74 : decode cX4_doubles 74 = .ok (.iload 4, 2) := sorry
theorem dX4_doubles_76 : decode cX4_doubles 76 = .ok (.iadd, 1) := sorry
theorem dX4_doubles_77 : decode cX4_doubles 77 = .ok (.iaload, 1) := sorry
theorem dX4_doubles_78 : decode cX4_doubles 78 = .ok (.ifCond .eq 21, 3) := sorry
theorem dX4_doubles_81 : decode cX4_doubles 81 = .ok (.aload_n 0, 1) := sorry
theorem dX4_doubles_82 : decode cX4_doubles 82 = .ok (.iload 4, 2) := sorry
theorem dX4_doubles_84 : decode cX4_doubles 84 = .ok (.invokevirtual 268, 3) := sorry
theorem dX4_doubles_87 : decode cX4_doubles 87 = .ok (.aload_n 0, 1) := sorry
theorem dX4_doubles_88 : decode cX4_doubles 88 = .ok (.iload_n 2, 1) := sorry
theorem dX4_doubles_89 : decode cX4_doubles 89 = .ok (.invokevirtual 268, 3) := sorry
theorem dX4_doubles_92 : decode cX4_doubles 92 = .ok (.if_icmp .ne 7, 3) := sorry
theorem dX4_doubles_95 : decode cX4_doubles 95 = .ok (.iconst 1, 1) := sorry
theorem dX4_doubles_96 : decode cX4_doubles 96 = .ok (.goto 4, 3) := sorry
theorem dX4_doubles_99 : decode cX4_doubles 99 = .ok (.iconst 0, 1) := sorry
theorem dX4_doubles_100 : decode cX4_doubles 100 = .ok (.istore_n 3, 1) := sorry
theorem dX4_doubles_101 : decode cX4_doubles 101 = .ok (.iinc 4 1, 3) := sorry
theorem dX4_doubles_104 : decode cX4_doubles 104 = .ok (.goto (-83), 3) := sorry
theorem dX4_doubles_107 : decode cX4_doubles 107 = .ok (.iload_n 1, 1) := sorry
theorem dX4_doubles_108 : decode cX4_doubles 108 = .ok (.iload_n 3, 1) := sorry
theorem dX4_doubles_109 : decode cX4_doubles 109 = .ok (.ifCond .eq 7, 3) := sorry
theorem dX4_doubles_112 : decode cX4_doubles 112 = .ok (.iconst 1, 1) := sorry
theorem dX4_doubles_113 : decode cX4_doubles 113 = .ok (.goto 4, 3) := sorry
theorem dX4_doubles_116 : decode cX4_doubles 116 = .ok (.iconst 0, 1) := sorry
theorem dX4_doubles_117 : decode cX4_doubles 117 = .ok (.iadd, 1) := sorry
theorem dX4_doubles_118 : decode cX4_doubles 118 = .ok (.istore_n 1, 1) := sorry
theorem dX4_doubles_119 : decode cX4_doubles 119 = .ok (.iinc 2 1, 3) := sorry
theorem dX4_doubles_122 : decode cX4_doubles 122 = .ok (.goto (-113), 3) := sorry
theorem dX4_doubles_125 : decode cX4_doubles 125 = .ok (.iload_n 1, 1) := sorry
theorem dX4_doubles_126 : decode cX4_doubles 126 = .ok (.ireturn, 1) := sorry
abbrev cX4_run : ByteArray := prog_16_method_93_code
def yX4_run : MethodName := ⟨RX4, "run", "(I)I"⟩
def dkwX4_run_2 : List UInt8 := [182, 1, 48, 172]
abbrev dktX4_run_2 : List UInt8 := dkwX4_run_2 ++ []
def dkwX4_run_1 : List UInt8 := [167, 0, 4, 3, 181, 0, 92, 42, 180, 0, 92, 158, 0, 5, 3, 172, 42, 182, 0, 213, 42, 27]
abbrev dktX4_run_1 : List UInt8 := dkwX4_run_1 ++ dktX4_run_2
def dkwX4_run_0 : List UInt8 := [42, 27, 4, 16, 60, 184, 0, 115, 154, 0, 7, 4, 167, 0, 15, 42, 182, 0, 227, 154, 0, 7, 5]
abbrev dktX4_run_0 : List UInt8 := dkwX4_run_0 ++ dktX4_run_1
theorem dksX4_run_0 : cX4_run.data.toList.drop 0 = dktX4_run_0 := sorry
theorem dksX4_run_1 : cX4_run.data.toList.drop 23 = dktX4_run_1 := sorry
theorem dksX4_run_2 : cX4_run.data.toList.drop 45 = dktX4_run_2 := sorry
theorem dX4_run_0 : decode cX4_run 0 = .ok (.aload_n 0, 1) := sorry
theorem dX4_run_1 : decode cX4_run 1 = .ok (.iload_n 1, 1) := sorry
theorem dX4_run_2 : decode cX4_run 2 = .ok (.iconst 1, 1) := sorry
theorem dX4_run_3 : decode cX4_run 3 = .ok (.bipush 60, 2) := sorry
theorem dX4_run_5 : decode cX4_run 5 = .ok (.invokestatic 115, 3) := sorry
theorem dX4_run_8 : decode cX4_run 8 = .ok (.ifCond .ne 7, 3) := sorry
theorem dX4_run_11 : decode cX4_run 11 = .ok (.iconst 1, 1) := sorry
theorem dX4_run_12 : decode cX4_run 12 = .ok (.goto 15, 3) := sorry
theorem dX4_run_15 : decode cX4_run 15 = .ok (.aload_n 0, 1) := sorry
theorem dX4_run_16 : decode cX4_run 16 = .ok (.invokevirtual 227, 3) := sorry
theorem dX4_run_19 : decode cX4_run 19 = .ok (.ifCond .ne 7, 3) := sorry
theorem dX4_run_22 : decode cX4_run 22 = .ok (.iconst 2, 1) := sorry
theorem dX4_run_23 : decode cX4_run 23 = .ok (.goto 4, 3) := sorry
theorem dX4_run_26 : decode cX4_run 26 = .ok (.iconst 0, 1) := sorry
theorem dX4_run_27 : decode cX4_run 27 = .ok (.putfield 92, 3) := sorry
theorem dX4_run_30 : decode cX4_run 30 = .ok (.aload_n 0, 1) := sorry
theorem dX4_run_31 : decode cX4_run 31 = .ok (.getfield 92, 3) := sorry
theorem dX4_run_34 : decode cX4_run 34 = .ok (.ifCond .le 5, 3) := sorry
theorem dX4_run_37 : decode cX4_run 37 = .ok (.iconst 0, 1) := sorry
theorem dX4_run_38 : decode cX4_run 38 = .ok (.ireturn, 1) := sorry
theorem dX4_run_39 : decode cX4_run 39 = .ok (.aload_n 0, 1) := sorry
theorem dX4_run_40 : decode cX4_run 40 = .ok (.invokevirtual 213, 3) := sorry
theorem dX4_run_43 : decode cX4_run 43 = .ok (.aload_n 0, 1) := sorry
theorem dX4_run_44 : decode cX4_run 44 = .ok (.iload_n 1, 1) := sorry
theorem dX4_run_45 : decode cX4_run 45 = .ok (.invokevirtual 304, 3) := sorry
theorem dX4_run_48 : decode cX4_run 48 = .ok (.ireturn, 1) := sorry
abbrev cX4_runs : ByteArray := prog_16_method_92_code
def yX4_runs : MethodName := ⟨RX4, "runs", "(I)I"⟩
def dkwX4_runs_6 : List UInt8 := [172]
abbrev dktX4_runs_6 : List UInt8 := dkwX4_runs_6 ++ []
def dkwX4_runs_5 : List UInt8 := [153, 0, 15, 29, 158, 0, 11, 42, 42, 182, 0, 255, 182, 0, 223, 42, 180, 0, 7, 16, 21, 46, 28, 100]
abbrev dktX4_runs_5 : List UInt8 := dkwX4_runs_5 ++ dktX4_runs_6
def dkwX4_runs_4 : List UInt8 := [159, 0, 14, 42, 180, 0, 7, 16, 15, 46, 6, 160, 0, 7, 3, 167, 0, 4, 4, 79, 42, 182, 0, 227]
abbrev dktX4_runs_4 : List UInt8 := dkwX4_runs_4 ++ dktX4_runs_5
def dkwX4_runs_3 : List UInt8 := [182, 1, 27, 54, 4, 167, 255, 213, 42, 180, 0, 7, 16, 9, 42, 180, 0, 7, 16, 15, 46, 5]
abbrev dktX4_runs_3 : List UInt8 := dkwX4_runs_3 ++ dktX4_runs_4
def dkwX4_runs_2 : List UInt8 := [16, 15, 46, 154, 0, 28, 42, 180, 0, 7, 16, 15, 42, 21, 4, 182, 1, 45, 79, 132, 3, 1, 42]
abbrev dktX4_runs_2 : List UInt8 := dkwX4_runs_2 ++ dktX4_runs_3
def dkwX4_runs_1 : List UInt8 := [42, 180, 0, 7, 16, 16, 3, 79, 21, 4, 2, 159, 0, 43, 29, 27, 162, 0, 38, 42, 180, 0, 7]
abbrev dktX4_runs_1 : List UInt8 := dkwX4_runs_1 ++ dktX4_runs_2
def dkwX4_runs_0 : List UInt8 := [42, 180, 0, 7, 16, 21, 46, 61, 3, 62, 42, 182, 1, 27, 54, 4, 42, 180, 0, 7, 16, 15, 3, 79]
abbrev dktX4_runs_0 : List UInt8 := dkwX4_runs_0 ++ dktX4_runs_1
theorem dksX4_runs_0 : cX4_runs.data.toList.drop 0 = dktX4_runs_0 := sorry
theorem dksX4_runs_1 : cX4_runs.data.toList.drop 24 = dktX4_runs_1 := sorry
theorem dksX4_runs_2 : cX4_runs.data.toList.drop 47 = dktX4_runs_2 := sorry
theorem dksX4_runs_3 : cX4_runs.data.toList.drop 70 = dktX4_runs_3 := sorry
theorem dksX4_runs_4 : cX4_runs.data.toList.drop 92 = dktX4_runs_4 := sorry
theorem dksX4_runs_5 : cX4_runs.data.toList.drop 116 = dktX4_runs_5 := sorry
theorem dksX4_runs_6 : cX4_runs.data.toList.drop 140 = dktX4_runs_6 := sorry
theorem dX4_runs_0 : decode cX4_runs 0 = .ok (.aload_n 0, 1) := sorry
theorem dX4_runs_1 : decode cX4_runs 1 = .ok (.getfield 7, 3) := sorry
theorem dX4_runs_4 : decode cX4_runs 4 = .ok (.bipush 21, 2) := sorry
theorem dX4_runs_6 : decode cX4_runs 6 = .ok (.iaload, 1) := sorry
theorem dX4_runs_7 : decode cX4_runs 7 = .ok (.istore_n 2, 1) := sorry
theorem dX4_runs_8 : decode cX4_runs 8 = .ok (.iconst 0, 1) := sorry
theorem dX4_runs_9 : decode cX4_runs 9 = .ok (.istore_n 3, 1) := sorry
theorem dX4_runs_10 : decode cX4_runs 10 = .ok (.aload_n 0, 1) := sorry
theorem dX4_runs_11 : decode cX4_runs 11 = .ok (.invokevirtual 283, 3) := sorry
theorem dX4_runs_14 : decode cX4_runs 14 = .ok (.istore 4, 2) := sorry
theorem dX4_runs_16 : decode cX4_runs 16 = .ok (.aload_n 0, 1) := sorry
theorem dX4_runs_17 : decode cX4_runs 17 = .ok (.getfield 7, 3) := sorry
theorem dX4_runs_20 : decode cX4_runs 20 = .ok (.bipush 15, 2) := sorry
theorem dX4_runs_22 : decode cX4_runs 22 = .ok (.iconst 0, 1) := sorry
theorem dX4_runs_23 : decode cX4_runs 23 = .ok (.iastore, 1) := sorry
theorem dX4_runs_24 : decode cX4_runs 24 = .ok (.aload_n 0, 1) := sorry
theorem dX4_runs_25 : decode cX4_runs 25 = .ok (.getfield 7, 3) := sorry
theorem dX4_runs_28 : decode cX4_runs 28 = .ok (.bipush 16, 2) := sorry
theorem dX4_runs_30 : decode cX4_runs 30 = .ok (.iconst 0, 1) := sorry
theorem dX4_runs_31 : decode cX4_runs 31 = .ok (.iastore, 1) := sorry
theorem dX4_runs_32 : decode cX4_runs 32 = .ok (.iload 4, 2) := sorry
theorem dX4_runs_34 : decode cX4_runs 34 = .ok (.iconst (-1), 1) := sorry
theorem dX4_runs_35 : decode cX4_runs 35 = .ok (.if_icmp .eq 43, 3) := sorry
theorem dX4_runs_38 : decode cX4_runs 38 = .ok (.iload_n 3, 1) := sorry
theorem dX4_runs_39 : decode cX4_runs 39 = .ok (.iload_n 1, 1) := sorry
theorem dX4_runs_40 : decode cX4_runs 40 = .ok (.if_icmp .ge 38, 3) := sorry
theorem dX4_runs_43 : decode cX4_runs 43 = .ok (.aload_n 0, 1) := sorry
theorem dX4_runs_44 : decode cX4_runs 44 = .ok (.getfield 7, 3) := sorry
theorem dX4_runs_47 : decode cX4_runs 47 = .ok (.bipush 15, 2) := sorry
theorem dX4_runs_49 : decode cX4_runs 49 = .ok (.iaload, 1) := sorry
theorem dX4_runs_50 : decode cX4_runs 50 = .ok (.ifCond .ne 28, 3) := sorry
theorem dX4_runs_53 : decode cX4_runs 53 = .ok (.aload_n 0, 1) := sorry
theorem dX4_runs_54 : decode cX4_runs 54 = .ok (.getfield 7, 3) := sorry
theorem dX4_runs_57 : decode cX4_runs 57 = .ok (.bipush 15, 2) := sorry
theorem dX4_runs_59 : decode cX4_runs 59 = .ok (.aload_n 0, 1) := sorry
theorem dX4_runs_60 : decode cX4_runs 60 = .ok (.iload 4, 2) := sorry
theorem dX4_runs_62 : decode cX4_runs 62 = .ok (.invokevirtual 301, 3) := sorry
theorem dX4_runs_65 : decode cX4_runs 65 = .ok (.iastore, 1) := sorry
theorem dX4_runs_66 : decode cX4_runs 66 = .ok (.iinc 3 1, 3) := sorry
theorem dX4_runs_69 : decode cX4_runs 69 = .ok (.aload_n 0, 1) := sorry
theorem dX4_runs_70 : decode cX4_runs 70 = .ok (.invokevirtual 283, 3) := sorry
theorem dX4_runs_73 : decode cX4_runs 73 = .ok (.istore 4, 2) := sorry
theorem dX4_runs_75 : decode cX4_runs 75 = .ok (.goto (-43), 3) := sorry
theorem dX4_runs_78 : decode cX4_runs 78 = .ok (.aload_n 0, 1) := sorry
theorem dX4_runs_79 : decode cX4_runs 79 = .ok (.getfield 7, 3) := sorry
theorem dX4_runs_82 : decode cX4_runs 82 = .ok (.bipush 9, 2) := sorry
theorem dX4_runs_84 : decode cX4_runs 84 = .ok (.aload_n 0, 1) := sorry
theorem dX4_runs_85 : decode cX4_runs 85 = .ok (.getfield 7, 3) := sorry
theorem dX4_runs_88 : decode cX4_runs 88 = .ok (.bipush 15, 2) := sorry
theorem dX4_runs_90 : decode cX4_runs 90 = .ok (.iaload, 1) := sorry
theorem dX4_runs_91 : decode cX4_runs 91 = .ok (.iconst 2, 1) := sorry
theorem dX4_runs_92 : decode cX4_runs 92 = .ok (.if_icmp .eq 14, 3) := sorry
theorem dX4_runs_95 : decode cX4_runs 95 = .ok (.aload_n 0, 1) := sorry
theorem dX4_runs_96 : decode cX4_runs 96 = .ok (.getfield 7, 3) := sorry
theorem dX4_runs_99 : decode cX4_runs 99 = .ok (.bipush 15, 2) := sorry
theorem dX4_runs_101 : decode cX4_runs 101 = .ok (.iaload, 1) := sorry
theorem dX4_runs_102 : decode cX4_runs 102 = .ok (.iconst 3, 1) := sorry
theorem dX4_runs_103 : decode cX4_runs 103 = .ok (.if_icmp .ne 7, 3) := sorry
theorem dX4_runs_106 : decode cX4_runs 106 = .ok (.iconst 0, 1) := sorry
theorem dX4_runs_107 : decode cX4_runs 107 = .ok (.goto 4, 3) := sorry
theorem dX4_runs_110 : decode cX4_runs 110 = .ok (.iconst 1, 1) := sorry
theorem dX4_runs_111 : decode cX4_runs 111 = .ok (.iastore, 1) := sorry
theorem dX4_runs_112 : decode cX4_runs 112 = .ok (.aload_n 0, 1) := sorry
theorem dX4_runs_113 : decode cX4_runs 113 = .ok (.invokevirtual 227, 3) := sorry
theorem dX4_runs_116 : decode cX4_runs 116 = .ok (.ifCond .eq 15, 3) := sorry
theorem dX4_runs_119 : decode cX4_runs 119 = .ok (.iload_n 3, 1) := sorry
theorem dX4_runs_120 : decode cX4_runs 120 = .ok (.ifCond .le 11, 3) := sorry
theorem dX4_runs_123 : decode cX4_runs 123 = .ok (.aload_n 0, 1) := sorry
theorem dX4_runs_124 : decode cX4_runs 124 = .ok (.aload_n 0, 1) := sorry
theorem dX4_runs_125 : decode cX4_runs 125 = .ok (.invokevirtual 255, 3) := sorry
theorem dX4_runs_128 : decode cX4_runs 128 = .ok (.invokevirtual 223, 3) := sorry
theorem dX4_runs_131 : decode cX4_runs 131 = .ok (.aload_n 0, 1) := sorry
theorem dX4_runs_132 : decode cX4_runs 132 = .ok (.getfield 7, 3) := sorry
theorem dX4_runs_135 : decode cX4_runs 135 = .ok (.bipush 21, 2) := sorry
theorem dX4_runs_137 : decode cX4_runs 137 = .ok (.iaload, 1) := sorry
theorem dX4_runs_138 : decode cX4_runs 138 = .ok (.iload_n 2, 1) := sorry
theorem dX4_runs_139 : decode cX4_runs 139 = .ok (.isub, 1) := sorry
theorem dX4_runs_140 : decode cX4_runs 140 = .ok (.ireturn, 1) := sorry
abbrev cX4_prints : ByteArray := prog_16_method_91_code
def yX4_prints : MethodName := ⟨RX4, "prints", "(I)I"⟩
def dkwX4_prints_11 : List UInt8 := [27, 28, 182, 1, 42, 29, 172]
abbrev dktX4_prints_11 : List UInt8 := dkwX4_prints_11 ++ []
def dkwX4_prints_10 : List UInt8 := [96, 46, 5, 160, 0, 20, 42, 180, 0, 52, 27, 16, 40, 108, 51, 153, 0, 8, 42, 27, 182, 1, 39, 42]
abbrev dktX4_prints_10 : List UInt8 := dkwX4_prints_10 ++ dktX4_prints_11
def dkwX4_prints_9 : List UInt8 := [167, 0, 4, 3, 79, 21, 5, 2, 160, 0, 7, 6, 167, 0, 4, 29, 62, 42, 180, 0, 7, 16, 125, 27]
abbrev dktX4_prints_9 : List UInt8 := dkwX4_prints_9 ++ dktX4_prints_10
def dkwX4_prints_8 : List UInt8 := [42, 180, 0, 7, 16, 12, 46, 96, 79, 42, 180, 0, 7, 16, 16, 21, 5, 2, 160, 0, 7, 29]
abbrev dktX4_prints_8 : List UInt8 := dkwX4_prints_8 ++ dktX4_prints_9
def dkwX4_prints_7 : List UInt8 := [42, 180, 0, 7, 16, 14, 21, 5, 2, 160, 0, 13, 42, 180, 0, 7, 16, 14, 46, 167, 0, 13, 21, 5]
abbrev dktX4_prints_7 : List UInt8 := dkwX4_prints_7 ++ dktX4_prints_8
def dkwX4_prints_6 : List UInt8 := [54, 5, 42, 180, 0, 7, 16, 17, 21, 5, 2, 160, 0, 7, 3, 167, 0, 8, 21, 5, 21, 4, 100, 79]
abbrev dktX4_prints_6 : List UInt8 := dkwX4_prints_6 ++ dktX4_prints_7
def dkwX4_prints_5 : List UInt8 := [28, 42, 180, 0, 7, 16, 11, 46, 96, 54, 4, 42, 21, 4, 182, 0, 223, 42, 21, 4, 182, 1, 36]
abbrev dktX4_prints_5 : List UInt8 := dkwX4_prints_5 ++ dktX4_prints_6
def dkwX4_prints_4 : List UInt8 := [42, 180, 0, 7, 16, 22, 92, 46, 29, 154, 0, 7, 3, 167, 0, 4, 4, 96, 79, 29, 5, 159, 0, 113]
abbrev dktX4_prints_4 : List UInt8 := dkwX4_prints_4 ++ dktX4_prints_5
def dkwX4_prints_3 : List UInt8 := [167, 0, 4, 5, 79, 42, 180, 0, 7, 16, 21, 92, 46, 29, 154, 0, 7, 4, 167, 0, 4, 3, 96, 79]
abbrev dktX4_prints_3 : List UInt8 := dkwX4_prints_3 ++ dktX4_prints_4
def dkwX4_prints_2 : List UInt8 := [92, 46, 4, 96, 79, 42, 182, 1, 33, 62, 42, 180, 0, 7, 16, 125, 27, 96, 29, 154, 0, 7, 4]
abbrev dktX4_prints_2 : List UInt8 := dkwX4_prints_2 ++ dktX4_prints_3
def dkwX4_prints_1 : List UInt8 := [28, 182, 0, 223, 42, 180, 0, 7, 17, 1, 109, 27, 96, 92, 46, 4, 96, 79, 42, 180, 0, 7, 16, 20]
abbrev dktX4_prints_1 : List UInt8 := dkwX4_prints_1 ++ dktX4_prints_2
def dkwX4_prints_0 : List UInt8 := [42, 180, 0, 7, 16, 18, 46, 158, 0, 8, 42, 3, 182, 1, 30, 42, 180, 0, 7, 16, 14, 46, 61, 42]
abbrev dktX4_prints_0 : List UInt8 := dkwX4_prints_0 ++ dktX4_prints_1
theorem dksX4_prints_0 : cX4_prints.data.toList.drop 0 = dktX4_prints_0 := sorry
theorem dksX4_prints_1 : cX4_prints.data.toList.drop 24 = dktX4_prints_1 := sorry
theorem dksX4_prints_2 : cX4_prints.data.toList.drop 48 = dktX4_prints_2 := sorry
theorem dksX4_prints_3 : cX4_prints.data.toList.drop 71 = dktX4_prints_3 := sorry
theorem dksX4_prints_4 : cX4_prints.data.toList.drop 95 = dktX4_prints_4 := sorry
theorem dksX4_prints_5 : cX4_prints.data.toList.drop 119 = dktX4_prints_5 := sorry
theorem dksX4_prints_6 : cX4_prints.data.toList.drop 142 = dktX4_prints_6 := sorry
theorem dksX4_prints_7 : cX4_prints.data.toList.drop 166 = dktX4_prints_7 := sorry
theorem dksX4_prints_8 : cX4_prints.data.toList.drop 190 = dktX4_prints_8 := sorry
theorem dksX4_prints_9 : cX4_prints.data.toList.drop 212 = dktX4_prints_9 := sorry
theorem dksX4_prints_10 : cX4_prints.data.toList.drop 236 = dktX4_prints_10 := sorry
theorem dksX4_prints_11 : cX4_prints.data.toList.drop 260 = dktX4_prints_11 := sorry
theorem dX4_prints_0 : decode cX4_prints 0 = .ok (.aload_n 0, 1) := sorry
theorem dX4_prints_1 : decode cX4_prints 1 = .ok (.getfield 7, 3) := sorry
theorem dX4_prints_4 : decode cX4_prints 4 = .ok (.bipush 18, 2) := sorry
theorem dX4_prints_6 : decode cX4_prints 6 = .ok (.iaload, 1) := sorry
theorem dX4_prints_7 : decode cX4_prints 7 = .ok (.ifCond .le 8, 3) := sorry
theorem dX4_prints_10 : decode cX4_prints 10 = .ok (.aload_n 0, 1) := sorry
theorem dX4_prints_11 : decode cX4_prints 11 = .ok (.iconst 0, 1) := sorry
theorem dX4_prints_12 : decode cX4_prints 12 = .ok (.invokevirtual 286, 3) := sorry
theorem dX4_prints_15 : decode cX4_prints 15 = .ok (.aload_n 0, 1) := sorry
theorem dX4_prints_16 : decode cX4_prints 16 = .ok (.getfield 7, 3) := sorry
theorem dX4_prints_19 : decode cX4_prints 19 = .ok (.bipush 14, 2) := sorry
theorem dX4_prints_21 : decode cX4_prints 21 = .ok (.iaload, 1) := sorry
theorem dX4_prints_22 : decode cX4_prints 22 = .ok (.istore_n 2, 1) := sorry
theorem dX4_prints_23 : decode cX4_prints 23 = .ok (.aload_n 0, 1) := sorry
theorem dX4_prints_24 : decode cX4_prints 24 = .ok (.iload_n 2, 1) := sorry
theorem dX4_prints_25 : decode cX4_prints 25 = .ok (.invokevirtual 223, 3) := sorry
theorem dX4_prints_28 : decode cX4_prints 28 = .ok (.aload_n 0, 1) := sorry
theorem dX4_prints_29 : decode cX4_prints 29 = .ok (.getfield 7, 3) := sorry
theorem dX4_prints_32 : decode cX4_prints 32 = .ok (.sipush 365, 3) := sorry
theorem dX4_prints_35 : decode cX4_prints 35 = .ok (.iload_n 1, 1) := sorry
theorem dX4_prints_36 : decode cX4_prints 36 = .ok (.iadd, 1) := sorry
theorem dX4_prints_37 : decode cX4_prints 37 = .ok (.dup2, 1) := sorry
theorem dX4_prints_38 : decode cX4_prints 38 = .ok (.iaload, 1) := sorry
theorem dX4_prints_39 : decode cX4_prints 39 = .ok (.iconst 1, 1) := sorry
theorem dX4_prints_40 : decode cX4_prints 40 = .ok (.iadd, 1) := sorry
theorem dX4_prints_41 : decode cX4_prints 41 = .ok (.iastore, 1) := sorry
theorem dX4_prints_42 : decode cX4_prints 42 = .ok (.aload_n 0, 1) := sorry
theorem dX4_prints_43 : decode cX4_prints 43 = .ok (.getfield 7, 3) := sorry
theorem dX4_prints_46 : decode cX4_prints 46 = .ok (.bipush 20, 2) := sorry
theorem dX4_prints_48 : decode cX4_prints 48 = .ok (.dup2, 1) := sorry
theorem dX4_prints_49 : decode cX4_prints 49 = .ok (.iaload, 1) := sorry
theorem dX4_prints_50 : decode cX4_prints 50 = .ok (.iconst 1, 1) := sorry
theorem dX4_prints_51 : decode cX4_prints 51 = .ok (.iadd, 1) := sorry
theorem dX4_prints_52 : decode cX4_prints 52 = .ok (.iastore, 1) := sorry
theorem dX4_prints_53 : decode cX4_prints 53 = .ok (.aload_n 0, 1) := sorry
theorem dX4_prints_54 : decode cX4_prints 54 = .ok (.invokevirtual 289, 3) := sorry
theorem dX4_prints_57 : decode cX4_prints 57 = .ok (.istore_n 3, 1) := sorry
theorem dX4_prints_58 : decode cX4_prints 58 = .ok (.aload_n 0, 1) := sorry
theorem dX4_prints_59 : decode cX4_prints 59 = .ok (.getfield 7, 3) := sorry
theorem dX4_prints_62 : decode cX4_prints 62 = .ok (.bipush 125, 2) := sorry
theorem dX4_prints_64 : decode cX4_prints 64 = .ok (.iload_n 1, 1) := sorry
theorem dX4_prints_65 : decode cX4_prints 65 = .ok (.iadd, 1) := sorry
theorem dX4_prints_66 : decode cX4_prints 66 = .ok (.iload_n 3, 1) := sorry
theorem dX4_prints_67 : decode cX4_prints 67 = .ok (.ifCond .ne 7, 3) := sorry
theorem dX4_prints_70 : decode cX4_prints 70 = .ok (.iconst 1, 1) := sorry
theorem dX4_prints_71 : decode cX4_prints 71 = .ok (.goto 4, 3) := sorry
theorem dX4_prints_74 : decode cX4_prints 74 = .ok (.iconst 2, 1) := sorry
theorem dX4_prints_75 : decode cX4_prints 75 = .ok (.iastore, 1) := sorry
theorem dX4_prints_76 : decode cX4_prints 76 = .ok (.aload_n 0, 1) := sorry
theorem dX4_prints_77 : decode cX4_prints 77 = .ok (.getfield 7, 3) := sorry
theorem dX4_prints_80 : decode cX4_prints 80 = .ok (.bipush 21, 2) := sorry
theorem dX4_prints_82 : decode cX4_prints 82 = .ok (.dup2, 1) := sorry
theorem dX4_prints_83 : decode cX4_prints 83 = .ok (.iaload, 1) := sorry
theorem dX4_prints_84 : decode cX4_prints 84 = .ok (.iload_n 3, 1) := sorry
theorem dX4_prints_85 : decode cX4_prints 85 = .ok (.ifCond .ne 7, 3) := sorry
theorem dX4_prints_88 : decode cX4_prints 88 = .ok (.iconst 1, 1) := sorry
theorem dX4_prints_89 : decode cX4_prints 89 = .ok (.goto 4, 3) := sorry
theorem dX4_prints_92 : decode cX4_prints 92 = .ok (.iconst 0, 1) := sorry
theorem dX4_prints_93 : decode cX4_prints 93 = .ok (.iadd, 1) := sorry
theorem dX4_prints_94 : decode cX4_prints 94 = .ok (.iastore, 1) := sorry
theorem dX4_prints_95 : decode cX4_prints 95 = .ok (.aload_n 0, 1) := sorry
theorem dX4_prints_96 : decode cX4_prints 96 = .ok (.getfield 7, 3) := sorry
theorem dX4_prints_99 : decode cX4_prints 99 = .ok (.bipush 22, 2) := sorry
theorem dX4_prints_101 : decode cX4_prints 101 = .ok (.dup2, 1) := sorry
theorem dX4_prints_102 : decode cX4_prints 102 = .ok (.iaload, 1) := sorry
theorem dX4_prints_103 : decode cX4_prints 103 = .ok (.iload_n 3, 1) := sorry
theorem dX4_prints_104 : decode cX4_prints 104 = .ok (.ifCond .ne 7, 3) := sorry
theorem dX4_prints_107 : decode cX4_prints 107 = .ok (.iconst 0, 1) := sorry
theorem dX4_prints_108 : decode cX4_prints 108 = .ok (.goto 4, 3) := sorry
theorem dX4_prints_111 : decode cX4_prints 111 = .ok (.iconst 1, 1) := sorry
theorem dX4_prints_112 : decode cX4_prints 112 = .ok (.iadd, 1) := sorry
theorem dX4_prints_113 : decode cX4_prints 113 = .ok (.iastore, 1) := sorry
theorem dX4_prints_114 : decode cX4_prints 114 = .ok (.iload_n 3, 1) := sorry
theorem dX4_prints_115 : decode cX4_prints 115 = .ok (.iconst 2, 1) := sorry
theorem dX4_prints_116 : decode cX4_prints 116 = .ok (.if_icmp .eq 113, 3) := sorry
theorem dX4_prints_119 : decode cX4_prints 119 = .ok (.iload_n 2, 1) := sorry
theorem dX4_prints_120 : decode cX4_prints 120 = .ok (.aload_n 0, 1) := sorry
theorem dX4_prints_121 : decode cX4_prints 121 = .ok (.getfield 7, 3) := sorry
theorem dX4_prints_124 : decode cX4_prints 124 = .ok (.bipush 11, 2) := sorry
theorem dX4_prints_126 : decode cX4_prints 126 = .ok (.iaload, 1) := sorry
theorem dX4_prints_127 : decode cX4_prints 127 = .ok (.iadd, 1) := sorry
theorem dX4_prints_128 : decode cX4_prints 128 = .ok (.istore 4, 2) := sorry
theorem dX4_prints_130 : decode cX4_prints 130 = .ok (.aload_n 0, 1) := sorry
theorem dX4_prints_131 : decode cX4_prints 131 = .ok (.iload 4, 2) := sorry
theorem dX4_prints_133 : decode cX4_prints 133 = .ok (.invokevirtual 223, 3) := sorry
theorem dX4_prints_136 : decode cX4_prints 136 = .ok (.aload_n 0, 1) := sorry
theorem dX4_prints_137 : decode cX4_prints 137 = .ok (.iload 4, 2) := sorry
theorem dX4_prints_139 : decode cX4_prints 139 = .ok (.invokevirtual 292, 3) := sorry
theorem dX4_prints_142 : decode cX4_prints 142 = .ok (.istore 5, 2) := sorry
theorem dX4_prints_144 : decode cX4_prints 144 = .ok (.aload_n 0, 1) := sorry
theorem dX4_prints_145 : decode cX4_prints 145 = .ok (.getfield 7, 3) := sorry
theorem dX4_prints_148 : decode cX4_prints 148 = .ok (.bipush 17, 2) := sorry
theorem dX4_prints_150 : decode cX4_prints 150 = .ok (.iload 5, 2) := sorry
theorem dX4_prints_152 : decode cX4_prints 152 = .ok (.iconst (-1), 1) := sorry
theorem dX4_prints_153 : decode cX4_prints 153 = .ok (.if_icmp .ne 7, 3) := sorry
theorem dX4_prints_156 : decode cX4_prints 156 = .ok (.iconst 0, 1) := sorry
theorem dX4_prints_157 : decode cX4_prints 157 = .ok (.goto 8, 3) := sorry
theorem dX4_prints_160 : decode cX4_prints 160 = .ok (.iload 5, 2) := sorry
theorem dX4_prints_162 : decode cX4_prints 162 = .ok (.iload 4, 2) := sorry
theorem dX4_prints_164 : decode cX4_prints 164 = .ok (.isub, 1) := sorry
theorem dX4_prints_165 : decode cX4_prints 165 = .ok (.iastore, 1) := sorry
theorem dX4_prints_166 : decode cX4_prints 166 = .ok (.aload_n 0, 1) := sorry
theorem dX4_prints_167 : decode cX4_prints 167 = .ok (.getfield 7, 3) := sorry
theorem dX4_prints_170 : decode cX4_prints 170 = .ok (.bipush 14, 2) := sorry
theorem dX4_prints_172 : decode cX4_prints 172 = .ok (.iload 5, 2) := sorry
theorem dX4_prints_174 : decode cX4_prints 174 = .ok (.iconst (-1), 1) := sorry
theorem dX4_prints_175 : decode cX4_prints 175 = .ok (.if_icmp .ne 13, 3) := sorry
theorem dX4_prints_178 : decode cX4_prints 178 = .ok (.aload_n 0, 1) := sorry
theorem dX4_prints_179 : decode cX4_prints 179 = .ok (.getfield 7, 3) := sorry
theorem dX4_prints_182 : decode cX4_prints 182 = .ok (.bipush 14, 2) := sorry
theorem dX4_prints_184 : decode cX4_prints 184 = .ok (.iaload, 1) := sorry
theorem dX4_prints_185 : decode cX4_prints 185 = .ok (.goto 13, 3) := sorry
theorem dX4_prints_188 : decode cX4_prints 188 = .ok (.iload 5, 2) := sorry
theorem dX4_prints_190 : decode cX4_prints 190 = .ok (.aload_n 0, 1) := sorry
theorem dX4_prints_191 : decode cX4_prints 191 = .ok (.getfield 7, 3) := sorry
theorem dX4_prints_194 : decode cX4_prints 194 = .ok (.bipush 12, 2) := sorry
theorem dX4_prints_196 : decode cX4_prints 196 = .ok (.iaload, 1) := sorry
theorem dX4_prints_197 : decode cX4_prints 197 = .ok (.iadd, 1) := sorry
theorem dX4_prints_198 : decode cX4_prints 198 = .ok (.iastore, 1) := sorry
theorem dX4_prints_199 : decode cX4_prints 199 = .ok (.aload_n 0, 1) := sorry
theorem dX4_prints_200 : decode cX4_prints 200 = .ok (.getfield 7, 3) := sorry
theorem dX4_prints_203 : decode cX4_prints 203 = .ok (.bipush 16, 2) := sorry
theorem dX4_prints_205 : decode cX4_prints 205 = .ok (.iload 5, 2) := sorry
theorem dX4_prints_207 : decode cX4_prints 207 = .ok (.iconst (-1), 1) := sorry
theorem dX4_prints_208 : decode cX4_prints 208 = .ok (.if_icmp .ne 7, 3) := sorry
theorem dX4_prints_211 : decode cX4_prints 211 = .ok (.iload_n 3, 1) := sorry
theorem dX4_prints_212 : decode cX4_prints 212 = .ok (.goto 4, 3) := sorry
theorem dX4_prints_215 : decode cX4_prints 215 = .ok (.iconst 0, 1) := sorry
theorem dX4_prints_216 : decode cX4_prints 216 = .ok (.iastore, 1) := sorry
theorem dX4_prints_217 : decode cX4_prints 217 = .ok (.iload 5, 2) := sorry
theorem dX4_prints_219 : decode cX4_prints 219 = .ok (.iconst (-1), 1) := sorry
theorem dX4_prints_220 : decode cX4_prints 220 = .ok (.if_icmp .ne 7, 3) := sorry
theorem dX4_prints_223 : decode cX4_prints 223 = .ok (.iconst 3, 1) := sorry
theorem dX4_prints_224 : decode cX4_prints 224 = .ok (.goto 4, 3) := sorry
theorem dX4_prints_227 : decode cX4_prints 227 = .ok (.iload_n 3, 1) := sorry
theorem dX4_prints_228 : decode cX4_prints 228 = .ok (.istore_n 3, 1) := sorry
theorem dX4_prints_229 : decode cX4_prints 229 = .ok (.aload_n 0, 1) := sorry
theorem dX4_prints_230 : decode cX4_prints 230 = .ok (.getfield 7, 3) := sorry
theorem dX4_prints_233 : decode cX4_prints 233 = .ok (.bipush 125, 2) := sorry
theorem dX4_prints_235 : decode cX4_prints 235 = .ok (.iload_n 1, 1) := sorry
theorem dX4_prints_236 : decode cX4_prints 236 = .ok (.iadd, 1) := sorry
theorem dX4_prints_237 : decode cX4_prints 237 = .ok (.iaload, 1) := sorry
theorem dX4_prints_238 : decode cX4_prints 238 = .ok (.iconst 2, 1) := sorry
theorem dX4_prints_239 : decode cX4_prints 239 = .ok (.if_icmp .ne 20, 3) := sorry
theorem dX4_prints_242 : decode cX4_prints 242 = .ok (.aload_n 0, 1) := sorry
theorem dX4_prints_243 : decode cX4_prints 243 = .ok (.getfield 52, 3) := sorry
theorem dX4_prints_246 : decode cX4_prints 246 = .ok (.iload_n 1, 1) := sorry
theorem dX4_prints_247 : decode cX4_prints 247 = .ok (.bipush 40, 2) := sorry
theorem dX4_prints_249 : decode cX4_prints 249 = .ok (.idiv, 1) := sorry
theorem dX4_prints_250 : decode cX4_prints 250 = .ok (.baload, 1) := sorry
theorem dX4_prints_251 : decode cX4_prints 251 = .ok (.ifCond .eq 8, 3) := sorry
theorem dX4_prints_254 : decode cX4_prints 254 = .ok (.aload_n 0, 1) := sorry
theorem dX4_prints_255 : decode cX4_prints 255 = .ok (.iload_n 1, 1) := sorry
theorem dX4_prints_256 : decode cX4_prints 256 = .ok (.invokevirtual 295, 3) := sorry
theorem dX4_prints_259 : decode cX4_prints 259 = .ok (.aload_n 0, 1) := sorry
theorem dX4_prints_260 : decode cX4_prints 260 = .ok (.iload_n 1, 1) := sorry
theorem dX4_prints_261 : decode cX4_prints 261 = .ok (.iload_n 2, 1) := sorry
theorem dX4_prints_262 : decode cX4_prints 262 = .ok (.invokevirtual 298, 3) := sorry
theorem dX4_prints_265 : decode cX4_prints 265 = .ok (.iload_n 3, 1) := sorry
theorem dX4_prints_266 : decode cX4_prints 266 = .ok (.ireturn, 1) := sorry
abbrev cX4_takesFromList : ByteArray := prog_16_method_86_code
def yX4_takesFromList : MethodName := ⟨RX4, "takesFromList", "(I)V"⟩
def dkwX4_takesFromList_2 : List UInt8 := [16, 18, 92, 46, 4, 100, 79, 177]
abbrev dktX4_takesFromList_2 : List UInt8 := dkwX4_takesFromList_2 ++ []
def dkwX4_takesFromList_1 : List UInt8 := [42, 180, 0, 7, 17, 2, 93, 28, 96, 4, 96, 46, 79, 132, 2, 1, 167, 255, 218, 42, 180, 0, 7]
abbrev dktX4_takesFromList_1 : List UInt8 := dkwX4_takesFromList_1 ++ dktX4_takesFromList_2
def dkwX4_takesFromList_0 : List UInt8 := [27, 61, 28, 4, 96, 42, 180, 0, 7, 16, 18, 46, 162, 0, 31, 42, 180, 0, 7, 17, 2, 93, 28, 96]
abbrev dktX4_takesFromList_0 : List UInt8 := dkwX4_takesFromList_0 ++ dktX4_takesFromList_1
theorem dksX4_takesFromList_0 : cX4_takesFromList.data.toList.drop 0 = dktX4_takesFromList_0 := sorry
theorem dksX4_takesFromList_1 : cX4_takesFromList.data.toList.drop 24 = dktX4_takesFromList_1 := sorry
theorem dksX4_takesFromList_2 : cX4_takesFromList.data.toList.drop 47 = dktX4_takesFromList_2 := sorry
theorem dX4_takesFromList_0 : decode cX4_takesFromList 0 = .ok (.iload_n 1, 1) := sorry
theorem dX4_takesFromList_1 : decode cX4_takesFromList 1 = .ok (.istore_n 2, 1) := sorry
theorem dX4_takesFromList_2 : decode cX4_takesFromList 2 = .ok (.iload_n 2, 1) := sorry
theorem dX4_takesFromList_3 : decode cX4_takesFromList 3 = .ok (.iconst 1, 1) := sorry
theorem dX4_takesFromList_4 : decode cX4_takesFromList 4 = .ok (.iadd, 1) := sorry
theorem dX4_takesFromList_5 : decode cX4_takesFromList 5 = .ok (.aload_n 0, 1) := sorry
theorem dX4_takesFromList_6 : decode cX4_takesFromList 6 = .ok (.getfield 7, 3) := sorry
theorem dX4_takesFromList_9 : decode cX4_takesFromList 9 = .ok (.bipush 18, 2) := sorry
theorem dX4_takesFromList_11 : decode cX4_takesFromList 11 = .ok (.iaload, 1) := sorry
theorem dX4_takesFromList_12 : decode cX4_takesFromList 12 = .ok (.if_icmp .ge 31, 3) := sorry
theorem dX4_takesFromList_15 : decode cX4_takesFromList 15 = .ok (.aload_n 0, 1) := sorry
theorem dX4_takesFromList_16 : decode cX4_takesFromList 16 = .ok (.getfield 7, 3) := sorry
theorem dX4_takesFromList_19 : decode cX4_takesFromList 19 = .ok (.sipush 605, 3) := sorry
theorem dX4_takesFromList_22 : decode cX4_takesFromList 22 = .ok (.iload_n 2, 1) := sorry
theorem dX4_takesFromList_23 : decode cX4_takesFromList 23 = .ok (.iadd, 1) := sorry
theorem dX4_takesFromList_24 : decode cX4_takesFromList 24 = .ok (.aload_n 0, 1) := sorry
theorem dX4_takesFromList_25 : decode cX4_takesFromList 25 = .ok (.getfield 7, 3) := sorry
theorem dX4_takesFromList_28 : decode cX4_takesFromList 28 = .ok (.sipush 605, 3) := sorry
theorem dX4_takesFromList_31 : decode cX4_takesFromList 31 = .ok (.iload_n 2, 1) := sorry
theorem dX4_takesFromList_32 : decode cX4_takesFromList 32 = .ok (.iadd, 1) := sorry
theorem dX4_takesFromList_33 : decode cX4_takesFromList 33 = .ok (.iconst 1, 1) := sorry
theorem dX4_takesFromList_34 : decode cX4_takesFromList 34 = .ok (.iadd, 1) := sorry
theorem dX4_takesFromList_35 : decode cX4_takesFromList 35 = .ok (.iaload, 1) := sorry
theorem dX4_takesFromList_36 : decode cX4_takesFromList 36 = .ok (.iastore, 1) := sorry
theorem dX4_takesFromList_37 : decode cX4_takesFromList 37 = .ok (.iinc 2 1, 3) := sorry
theorem dX4_takesFromList_40 : decode cX4_takesFromList 40 = .ok (.goto (-38), 3) := sorry
theorem dX4_takesFromList_43 : decode cX4_takesFromList 43 = .ok (.aload_n 0, 1) := sorry
theorem dX4_takesFromList_44 : decode cX4_takesFromList 44 = .ok (.getfield 7, 3) := sorry
theorem dX4_takesFromList_47 : decode cX4_takesFromList 47 = .ok (.bipush 18, 2) := sorry
theorem dX4_takesFromList_49 : decode cX4_takesFromList 49 = .ok (.dup2, 1) := sorry
theorem dX4_takesFromList_50 : decode cX4_takesFromList 50 = .ok (.iaload, 1) := sorry
theorem dX4_takesFromList_51 : decode cX4_takesFromList 51 = .ok (.iconst 1, 1) := sorry
theorem dX4_takesFromList_52 : decode cX4_takesFromList 52 = .ok (.isub, 1) := sorry
theorem dX4_takesFromList_53 : decode cX4_takesFromList 53 = .ok (.iastore, 1) := sorry
theorem dX4_takesFromList_54 : decode cX4_takesFromList 54 = .ok (.return_, 1) := sorry
abbrev cX4_dots : ByteArray := prog_16_method_89_code
def yX4_dots : MethodName := ⟨RX4, "dots", "()I"⟩
def dkwX4_dots_5 : List UInt8 := [167, 255, 141, 3, 172]
abbrev dktX4_dots_5 : List UInt8 := dkwX4_dots_5 ++ []
def dkwX4_dots_4 : List UInt8 := [4, 167, 0, 4, 3, 96, 79, 42, 42, 180, 0, 7, 4, 46, 4, 96, 182, 0, 223, 132, 1, 1]
abbrev dktX4_dots_4 : List UInt8 := dkwX4_dots_4 ++ dktX4_dots_5
def dkwX4_dots_3 : List UInt8 := [46, 28, 153, 0, 7, 4, 167, 0, 4, 3, 100, 79, 42, 180, 0, 7, 16, 24, 92, 46, 28, 153, 0, 7]
abbrev dktX4_dots_3 : List UInt8 := dkwX4_dots_3 ++ dktX4_dots_4
def dkwX4_dots_2 : List UInt8 := [172, 28, 153, 0, 15, 42, 180, 0, 7, 16, 8, 46, 154, 0, 5, 4, 172, 42, 180, 0, 7, 16, 8, 92]
abbrev dktX4_dots_2 : List UInt8 := dkwX4_dots_2 ++ dktX4_dots_3
def dkwX4_dots_1 : List UInt8 := [180, 0, 29, 96, 4, 100, 184, 0, 115, 61, 42, 180, 0, 7, 4, 46, 42, 182, 0, 204, 161, 0, 5, 5]
abbrev dktX4_dots_1 : List UInt8 := dkwX4_dots_1 ++ dktX4_dots_2
def dkwX4_dots_0 : List UInt8 := [3, 60, 27, 42, 180, 0, 7, 16, 11, 46, 162, 0, 110, 27, 42, 180, 0, 189, 42, 180, 0, 189, 42]
abbrev dktX4_dots_0 : List UInt8 := dkwX4_dots_0 ++ dktX4_dots_1
theorem dksX4_dots_0 : cX4_dots.data.toList.drop 0 = dktX4_dots_0 := sorry
theorem dksX4_dots_1 : cX4_dots.data.toList.drop 23 = dktX4_dots_1 := sorry
theorem dksX4_dots_2 : cX4_dots.data.toList.drop 47 = dktX4_dots_2 := sorry
theorem dksX4_dots_3 : cX4_dots.data.toList.drop 71 = dktX4_dots_3 := sorry
theorem dksX4_dots_4 : cX4_dots.data.toList.drop 95 = dktX4_dots_4 := sorry
theorem dksX4_dots_5 : cX4_dots.data.toList.drop 117 = dktX4_dots_5 := sorry
theorem dX4_dots_0 : decode cX4_dots 0 = .ok (.iconst 0, 1) := sorry
theorem dX4_dots_1 : decode cX4_dots 1 = .ok (.istore_n 1, 1) := sorry
theorem dX4_dots_2 : decode cX4_dots 2 = .ok (.iload_n 1, 1) := sorry
theorem dX4_dots_3 : decode cX4_dots 3 = .ok (.aload_n 0, 1) := sorry
theorem dX4_dots_4 : decode cX4_dots 4 = .ok (.getfield 7, 3) := sorry
theorem dX4_dots_7 : decode cX4_dots 7 = .ok (.bipush 11, 2) := sorry
theorem dX4_dots_9 : decode cX4_dots 9 = .ok (.iaload, 1) := sorry
theorem dX4_dots_10 : decode cX4_dots 10 = .ok (.if_icmp .ge 110, 3) := sorry
theorem dX4_dots_13 : decode cX4_dots 13 = .ok (.iload_n 1, 1) := sorry
theorem dX4_dots_14 : decode cX4_dots 14 = .ok (.aload_n 0, 1) := sorry
theorem dX4_dots_15 : decode cX4_dots 15 = .ok (.getfield 189, 3) := sorry
theorem dX4_dots_18 : decode cX4_dots 18 = .ok (.aload_n 0, 1) := sorry
theorem dX4_dots_19 : decode cX4_dots 19 = .ok (.getfield 189, 3) := sorry
theorem dX4_dots_22 : decode cX4_dots 22 = .ok (.aload_n 0, 1) := sorry
theorem dX4_dots_23 : decode cX4_dots 23 = .ok (.getfield 29, 3) := sorry
theorem dX4_dots_26 : decode cX4_dots 26 = .ok (.iadd, 1) := sorry
theorem dX4_dots_27 : decode cX4_dots 27 = .ok (.iconst 1, 1) := sorry
theorem dX4_dots_28 : decode cX4_dots 28 = .ok (.isub, 1) := sorry
theorem dX4_dots_29 : decode cX4_dots 29 = .ok (.invokestatic 115, 3) := sorry
theorem dX4_dots_32 : decode cX4_dots 32 = .ok (.istore_n 2, 1) := sorry
theorem dX4_dots_33 : decode cX4_dots 33 = .ok (.aload_n 0, 1) := sorry
theorem dX4_dots_34 : decode cX4_dots 34 = .ok (.getfield 7, 3) := sorry
theorem dX4_dots_37 : decode cX4_dots 37 = .ok (.iconst 1, 1) := sorry
theorem dX4_dots_38 : decode cX4_dots 38 = .ok (.iaload, 1) := sorry
theorem dX4_dots_39 : decode cX4_dots 39 = .ok (.aload_n 0, 1) := sorry
theorem dX4_dots_40 : decode cX4_dots 40 = .ok (.invokevirtual 204, 3) := sorry
theorem dX4_dots_43 : decode cX4_dots 43 = .ok (.if_icmp .lt 5, 3) := sorry
theorem dX4_dots_46 : decode cX4_dots 46 = .ok (.iconst 2, 1) := sorry
theorem dX4_dots_47 : decode cX4_dots 47 = .ok (.ireturn, 1) := sorry
theorem dX4_dots_48 : decode cX4_dots 48 = .ok (.iload_n 2, 1) := sorry
theorem dX4_dots_49 : decode cX4_dots 49 = .ok (.ifCond .eq 15, 3) := sorry
theorem dX4_dots_52 : decode cX4_dots 52 = .ok (.aload_n 0, 1) := sorry
theorem dX4_dots_53 : decode cX4_dots 53 = .ok (.getfield 7, 3) := sorry
theorem dX4_dots_56 : decode cX4_dots 56 = .ok (.bipush 8, 2) := sorry
theorem dX4_dots_58 : decode cX4_dots 58 = .ok (.iaload, 1) := sorry
theorem dX4_dots_59 : decode cX4_dots 59 = .ok (.ifCond .ne 5, 3) := sorry
theorem dX4_dots_62 : decode cX4_dots 62 = .ok (.iconst 1, 1) := sorry
theorem dX4_dots_63 : decode cX4_dots 63 = .ok (.ireturn, 1) := sorry
theorem dX4_dots_64 : decode cX4_dots 64 = .ok (.aload_n 0, 1) := sorry
theorem dX4_dots_65 : decode cX4_dots 65 = .ok (.getfield 7, 3) := sorry
theorem dX4_dots_68 : decode cX4_dots 68 = .ok (.bipush 8, 2) := sorry
theorem dX4_dots_70 : decode cX4_dots 70 = .ok (.dup2, 1) := sorry
theorem dX4_dots_71 : decode cX4_dots 71 = .ok (.iaload, 1) := sorry
theorem dX4_dots_72 : decode cX4_dots 72 = .ok (.iload_n 2, 1) := sorry
theorem dX4_dots_73 : decode cX4_dots 73 = .ok (.ifCond .eq 7, 3) := sorry
theorem dX4_dots_76 : decode cX4_dots 76 = .ok (.iconst 1, 1) := sorry
theorem dX4_dots_77 : decode cX4_dots 77 = .ok (.goto 4, 3) := sorry
theorem dX4_dots_80 : decode cX4_dots 80 = .ok (.iconst 0, 1) := sorry
theorem dX4_dots_81 : decode cX4_dots 81 = .ok (.isub, 1) := sorry
theorem dX4_dots_82 : decode cX4_dots 82 = .ok (.iastore, 1) := sorry
theorem dX4_dots_83 : decode cX4_dots 83 = .ok (.aload_n 0, 1) := sorry
theorem dX4_dots_84 : decode cX4_dots 84 = .ok (.getfield 7, 3) := sorry
theorem dX4_dots_87 : decode cX4_dots 87 = .ok (.bipush 24, 2) := sorry
theorem dX4_dots_89 : decode cX4_dots 89 = .ok (.dup2, 1) := sorry
theorem dX4_dots_90 : decode cX4_dots 90 = .ok (.iaload, 1) := sorry
theorem dX4_dots_91 : decode cX4_dots 91 = .ok (.iload_n 2, 1) := sorry
theorem dX4_dots_92 : decode cX4_dots 92 = .ok (.ifCond .eq 7, 3) := sorry
theorem dX4_dots_95 : decode cX4_dots 95 = .ok (.iconst 1, 1) := sorry
theorem dX4_dots_96 : decode cX4_dots 96 = .ok (.goto 4, 3) := sorry
theorem dX4_dots_99 : decode cX4_dots 99 = .ok (.iconst 0, 1) := sorry
theorem dX4_dots_100 : decode cX4_dots 100 = .ok (.iadd, 1) := sorry
theorem dX4_dots_101 : decode cX4_dots 101 = .ok (.iastore, 1) := sorry
theorem dX4_dots_102 : decode cX4_dots 102 = .ok (.aload_n 0, 1) := sorry
theorem dX4_dots_103 : decode cX4_dots 103 = .ok (.aload_n 0, 1) := sorry
theorem dX4_dots_104 : decode cX4_dots 104 = .ok (.getfield 7, 3) := sorry
theorem dX4_dots_107 : decode cX4_dots 107 = .ok (.iconst 1, 1) := sorry
theorem dX4_dots_108 : decode cX4_dots 108 = .ok (.iaload, 1) := sorry
theorem dX4_dots_109 : decode cX4_dots 109 = .ok (.iconst 1, 1) := sorry
theorem dX4_dots_110 : decode cX4_dots 110 = .ok (.iadd, 1) := sorry
theorem dX4_dots_111 : decode cX4_dots 111 = .ok (.invokevirtual 223, 3) := sorry
theorem dX4_dots_114 : decode cX4_dots 114 = .ok (.iinc 1 1, 3) := sorry
theorem dX4_dots_117 : decode cX4_dots 117 = .ok (.goto (-115), 3) := sorry
theorem dX4_dots_120 : decode cX4_dots 120 = .ok (.iconst 0, 1) := sorry
theorem dX4_dots_121 : decode cX4_dots 121 = .ok (.ireturn, 1) := sorry
abbrev cX4_gapNear : ByteArray := prog_16_method_90_code
def yX4_gapNear : MethodName := ⟨RX4, "gapNear", "(I)I"⟩
def dkwX4_gapNear_2 : List UInt8 := [42, 27, 28, 96, 182, 0, 246, 153, 0, 7, 27, 28, 96, 172, 132, 2, 1, 167, 255, 193, 2, 172]
abbrev dktX4_gapNear_2 : List UInt8 := dkwX4_gapNear_2 ++ []
def dkwX4_gapNear_1 : List UInt8 := [28, 100, 182, 0, 246, 153, 0, 7, 27, 28, 100, 172, 27, 28, 96, 42, 180, 0, 7, 5, 46, 163, 0, 17]
abbrev dktX4_gapNear_1 : List UInt8 := dkwX4_gapNear_1 ++ dktX4_gapNear_2
def dkwX4_gapNear_0 : List UInt8 := [3, 61, 28, 42, 180, 0, 26, 163, 0, 61, 27, 28, 100, 42, 180, 0, 7, 5, 46, 163, 0, 17, 42, 27]
abbrev dktX4_gapNear_0 : List UInt8 := dkwX4_gapNear_0 ++ dktX4_gapNear_1
theorem dksX4_gapNear_0 : cX4_gapNear.data.toList.drop 0 = dktX4_gapNear_0 := sorry
theorem dksX4_gapNear_1 : cX4_gapNear.data.toList.drop 24 = dktX4_gapNear_1 := sorry
theorem dksX4_gapNear_2 : cX4_gapNear.data.toList.drop 48 = dktX4_gapNear_2 := sorry
theorem dX4_gapNear_0 : decode cX4_gapNear 0 = .ok (.iconst 0, 1) := sorry
theorem dX4_gapNear_1 : decode cX4_gapNear 1 = .ok (.istore_n 2, 1) := sorry
theorem dX4_gapNear_2 : decode cX4_gapNear 2 = .ok (.iload_n 2, 1) := sorry
theorem dX4_gapNear_3 : decode cX4_gapNear 3 = .ok (.aload_n 0, 1) := sorry
theorem dX4_gapNear_4 : decode cX4_gapNear 4 = .ok (.getfield 26, 3) := sorry
theorem dX4_gapNear_7 : decode cX4_gapNear 7 = .ok (.if_icmp .gt 61, 3) := sorry
theorem dX4_gapNear_10 : decode cX4_gapNear 10 = .ok (.iload_n 1, 1) := sorry
theorem dX4_gapNear_11 : decode cX4_gapNear 11 = .ok (.iload_n 2, 1) := sorry
theorem dX4_gapNear_12 : decode cX4_gapNear 12 = .ok (.isub, 1) := sorry
theorem dX4_gapNear_13 : decode cX4_gapNear 13 = .ok (.aload_n 0, 1) := sorry
theorem dX4_gapNear_14 : decode cX4_gapNear 14 = .ok (.getfield 7, 3) := sorry
theorem dX4_gapNear_17 : decode cX4_gapNear 17 = .ok (.iconst 2, 1) := sorry
theorem dX4_gapNear_18 : decode cX4_gapNear 18 = .ok (.iaload, 1) := sorry
theorem dX4_gapNear_19 : decode cX4_gapNear 19 = .ok (.if_icmp .gt 17, 3) := sorry
theorem dX4_gapNear_22 : decode cX4_gapNear 22 = .ok (.aload_n 0, 1) := sorry
theorem dX4_gapNear_23 : decode cX4_gapNear 23 = .ok (.iload_n 1, 1) := sorry
theorem dX4_gapNear_24 : decode cX4_gapNear 24 = .ok (.iload_n 2, 1) := sorry
theorem dX4_gapNear_25 : decode cX4_gapNear 25 = .ok (.isub, 1) := sorry
theorem dX4_gapNear_26 : decode cX4_gapNear 26 = .ok (.invokevirtual 246, 3) := sorry
theorem dX4_gapNear_29 : decode cX4_gapNear 29 = .ok (.ifCond .eq 7, 3) := sorry
theorem dX4_gapNear_32 : decode cX4_gapNear 32 = .ok (.iload_n 1, 1) := sorry
theorem dX4_gapNear_33 : decode cX4_gapNear 33 = .ok (.iload_n 2, 1) := sorry
theorem dX4_gapNear_34 : decode cX4_gapNear 34 = .ok (.isub, 1) := sorry
theorem dX4_gapNear_35 : decode cX4_gapNear 35 = .ok (.ireturn, 1) := sorry
theorem dX4_gapNear_36 : decode cX4_gapNear 36 = .ok (.iload_n 1, 1) := sorry
theorem dX4_gapNear_37 : decode cX4_gapNear 37 = .ok (.iload_n 2, 1) := sorry
theorem dX4_gapNear_38 : decode cX4_gapNear 38 = .ok (.iadd, 1) := sorry
theorem dX4_gapNear_39 : decode cX4_gapNear 39 = .ok (.aload_n 0, 1) := sorry
theorem dX4_gapNear_40 : decode cX4_gapNear 40 = .ok (.getfield 7, 3) := sorry
theorem dX4_gapNear_43 : decode cX4_gapNear 43 = .ok (.iconst 2, 1) := sorry
theorem dX4_gapNear_44 : decode cX4_gapNear 44 = .ok (.iaload, 1) := sorry
theorem dX4_gapNear_45 : decode cX4_gapNear 45 = .ok (.if_icmp .gt 17, 3) := sorry
theorem dX4_gapNear_48 : decode cX4_gapNear 48 = .ok (.aload_n 0, 1) := sorry
theorem dX4_gapNear_49 : decode cX4_gapNear 49 = .ok (.iload_n 1, 1) := sorry
theorem dX4_gapNear_50 : decode cX4_gapNear 50 = .ok (.iload_n 2, 1) := sorry
theorem dX4_gapNear_51 : decode cX4_gapNear 51 = .ok (.iadd, 1) := sorry
theorem dX4_gapNear_52 : decode cX4_gapNear 52 = .ok (.invokevirtual 246, 3) := sorry
theorem dX4_gapNear_55 : decode cX4_gapNear 55 = .ok (.ifCond .eq 7, 3) := sorry
theorem dX4_gapNear_58 : decode cX4_gapNear 58 = .ok (.iload_n 1, 1) := sorry
theorem dX4_gapNear_59 : decode cX4_gapNear 59 = .ok (.iload_n 2, 1) := sorry
theorem dX4_gapNear_60 : decode cX4_gapNear 60 = .ok (.iadd, 1) := sorry
theorem dX4_gapNear_61 : decode cX4_gapNear 61 = .ok (.ireturn, 1) := sorry
theorem dX4_gapNear_62 : decode cX4_gapNear 62 = .ok (.iinc 2 1, 3) := sorry
theorem dX4_gapNear_65 : decode cX4_gapNear 65 = .ok (.goto (-63), 3) := sorry
theorem dX4_gapNear_68 : decode cX4_gapNear 68 = .ok (.iconst (-1), 1) := sorry
theorem dX4_gapNear_69 : decode cX4_gapNear 69 = .ok (.ireturn, 1) := sorry
abbrev cX4_putsFirst : ByteArray := prog_16_method_87_code
def yX4_putsFirst : MethodName := ⟨RX4, "putsFirst", "(I)V"⟩
def dkwX4_putsFirst_2 : List UInt8 := [17, 2, 93, 27, 79, 42, 180, 0, 7, 16, 18, 92, 46, 4, 96, 79, 177]
abbrev dktX4_putsFirst_2 : List UInt8 := dkwX4_putsFirst_2 ++ []
def dkwX4_putsFirst_1 : List UInt8 := [180, 0, 7, 17, 2, 93, 28, 96, 4, 100, 46, 79, 132, 2, 255, 167, 255, 227, 42, 180, 0, 7]
abbrev dktX4_putsFirst_1 : List UInt8 := dkwX4_putsFirst_1 ++ dktX4_putsFirst_2
def dkwX4_putsFirst_0 : List UInt8 := [42, 180, 0, 7, 16, 18, 46, 61, 28, 158, 0, 31, 42, 180, 0, 7, 17, 2, 93, 28, 96, 42]
abbrev dktX4_putsFirst_0 : List UInt8 := dkwX4_putsFirst_0 ++ dktX4_putsFirst_1
theorem dksX4_putsFirst_0 : cX4_putsFirst.data.toList.drop 0 = dktX4_putsFirst_0 := sorry
theorem dksX4_putsFirst_1 : cX4_putsFirst.data.toList.drop 22 = dktX4_putsFirst_1 := sorry
theorem dksX4_putsFirst_2 : cX4_putsFirst.data.toList.drop 44 = dktX4_putsFirst_2 := sorry
theorem dX4_putsFirst_0 : decode cX4_putsFirst 0 = .ok (.aload_n 0, 1) := sorry
theorem dX4_putsFirst_1 : decode cX4_putsFirst 1 = .ok (.getfield 7, 3) := sorry
theorem dX4_putsFirst_4 : decode cX4_putsFirst 4 = .ok (.bipush 18, 2) := sorry
theorem dX4_putsFirst_6 : decode cX4_putsFirst 6 = .ok (.iaload, 1) := sorry
theorem dX4_putsFirst_7 : decode cX4_putsFirst 7 = .ok (.istore_n 2, 1) := sorry
theorem dX4_putsFirst_8 : decode cX4_putsFirst 8 = .ok (.iload_n 2, 1) := sorry
theorem dX4_putsFirst_9 : decode cX4_putsFirst 9 = .ok (.ifCond .le 31, 3) := sorry
theorem dX4_putsFirst_12 : decode cX4_putsFirst 12 = .ok (.aload_n 0, 1) := sorry
theorem dX4_putsFirst_13 : decode cX4_putsFirst 13 = .ok (.getfield 7, 3) := sorry
theorem dX4_putsFirst_16 : decode cX4_putsFirst 16 = .ok (.sipush 605, 3) := sorry
theorem dX4_putsFirst_19 : decode cX4_putsFirst 19 = .ok (.iload_n 2, 1) := sorry
theorem dX4_putsFirst_20 : decode cX4_putsFirst 20 = .ok (.iadd, 1) := sorry
theorem dX4_putsFirst_21 : decode cX4_putsFirst 21 = .ok (.aload_n 0, 1) := sorry
theorem dX4_putsFirst_22 : decode cX4_putsFirst 22 = .ok (.getfield 7, 3) := sorry
theorem dX4_putsFirst_25 : decode cX4_putsFirst 25 = .ok (.sipush 605, 3) := sorry
theorem dX4_putsFirst_28 : decode cX4_putsFirst 28 = .ok (.iload_n 2, 1) := sorry
theorem dX4_putsFirst_29 : decode cX4_putsFirst 29 = .ok (.iadd, 1) := sorry
theorem dX4_putsFirst_30 : decode cX4_putsFirst 30 = .ok (.iconst 1, 1) := sorry
theorem dX4_putsFirst_31 : decode cX4_putsFirst 31 = .ok (.isub, 1) := sorry
theorem dX4_putsFirst_32 : decode cX4_putsFirst 32 = .ok (.iaload, 1) := sorry
theorem dX4_putsFirst_33 : decode cX4_putsFirst 33 = .ok (.iastore, 1) := sorry
theorem dX4_putsFirst_34 : decode cX4_putsFirst 34 = .ok (.iinc 2 (-1), 3) := sorry
theorem dX4_putsFirst_37 : decode cX4_putsFirst 37 = .ok (.goto (-29), 3) := sorry
theorem dX4_putsFirst_40 : decode cX4_putsFirst 40 = .ok (.aload_n 0, 1) := sorry
theorem dX4_putsFirst_41 : decode cX4_putsFirst 41 = .ok (.getfield 7, 3) := sorry
theorem dX4_putsFirst_44 : decode cX4_putsFirst 44 = .ok (.sipush 605, 3) := sorry
theorem dX4_putsFirst_47 : decode cX4_putsFirst 47 = .ok (.iload_n 1, 1) := sorry
theorem dX4_putsFirst_48 : decode cX4_putsFirst 48 = .ok (.iastore, 1) := sorry
theorem dX4_putsFirst_49 : decode cX4_putsFirst 49 = .ok (.aload_n 0, 1) := sorry
theorem dX4_putsFirst_50 : decode cX4_putsFirst 50 = .ok (.getfield 7, 3) := sorry
theorem dX4_putsFirst_53 : decode cX4_putsFirst 53 = .ok (.bipush 18, 2) := sorry
theorem dX4_putsFirst_55 : decode cX4_putsFirst 55 = .ok (.dup2, 1) := sorry
theorem dX4_putsFirst_56 : decode cX4_putsFirst 56 = .ok (.iaload, 1) := sorry
theorem dX4_putsFirst_57 : decode cX4_putsFirst 57 = .ok (.iconst 1, 1) := sorry
theorem dX4_putsFirst_58 : decode cX4_putsFirst 58 = .ok (.iadd, 1) := sorry
theorem dX4_putsFirst_59 : decode cX4_putsFirst 59 = .ok (.iastore, 1) := sorry
theorem dX4_putsFirst_60 : decode cX4_putsFirst 60 = .ok (.return_, 1) := sorry
abbrev cX4_logs : ByteArray := prog_16_method_88_code
def yX4_logs : MethodName := ⟨RX4, "logs", "(II)V"⟩
def dkwX4_logs_4 : List UInt8 := [16, 19, 16, 24, 42, 180, 0, 7, 16, 19, 46, 4, 96, 184, 0, 237, 79, 177]
abbrev dktX4_logs_4 : List UInt8 := dkwX4_logs_4 ++ []
def dkwX4_logs_3 : List UInt8 := [28, 79, 42, 180, 0, 7, 17, 3, 80, 42, 180, 0, 7, 17, 1, 109, 27, 96, 46, 79, 42, 180, 0, 7]
abbrev dktX4_logs_3 : List UInt8 := dkwX4_logs_3 ++ dktX4_logs_4
def dkwX4_logs_2 : List UInt8 := [42, 180, 0, 7, 17, 3, 78, 42, 180, 0, 7, 16, 125, 27, 96, 46, 79, 42, 180, 0, 7, 17, 3, 79]
abbrev dktX4_logs_2 : List UInt8 := dkwX4_logs_2 ++ dktX4_logs_3
def dkwX4_logs_1 : List UInt8 := [29, 96, 7, 100, 46, 79, 132, 3, 255, 167, 255, 226, 42, 180, 0, 7, 17, 3, 77, 27, 184, 1, 24, 79]
abbrev dktX4_logs_1 : List UInt8 := dkwX4_logs_1 ++ dktX4_logs_2
def dkwX4_logs_0 : List UInt8 := [16, 95, 62, 29, 7, 161, 0, 31, 42, 180, 0, 7, 17, 3, 77, 29, 96, 42, 180, 0, 7, 17, 3, 77]
abbrev dktX4_logs_0 : List UInt8 := dkwX4_logs_0 ++ dktX4_logs_1
theorem dksX4_logs_0 : cX4_logs.data.toList.drop 0 = dktX4_logs_0 := sorry
theorem dksX4_logs_1 : cX4_logs.data.toList.drop 24 = dktX4_logs_1 := sorry
theorem dksX4_logs_2 : cX4_logs.data.toList.drop 48 = dktX4_logs_2 := sorry
theorem dksX4_logs_3 : cX4_logs.data.toList.drop 72 = dktX4_logs_3 := sorry
theorem dksX4_logs_4 : cX4_logs.data.toList.drop 96 = dktX4_logs_4 := sorry
theorem dX4_logs_0 : decode cX4_logs 0 = .ok (.bipush 95, 2) := sorry
theorem dX4_logs_2 : decode cX4_logs 2 = .ok (.istore_n 3, 1) := sorry
theorem dX4_logs_3 : decode cX4_logs 3 = .ok (.iload_n 3, 1) := sorry
theorem dX4_logs_4 : decode cX4_logs 4 = .ok (.iconst 4, 1) := sorry
theorem dX4_logs_5 : decode cX4_logs 5 = .ok (.if_icmp .lt 31, 3) := sorry
theorem dX4_logs_8 : decode cX4_logs 8 = .ok (.aload_n 0, 1) := sorry
theorem dX4_logs_9 : decode cX4_logs 9 = .ok (.getfield 7, 3) := sorry
theorem dX4_logs_12 : decode cX4_logs 12 = .ok (.sipush 845, 3) := sorry
theorem dX4_logs_15 : decode cX4_logs 15 = .ok (.iload_n 3, 1) := sorry
theorem dX4_logs_16 : decode cX4_logs 16 = .ok (.iadd, 1) := sorry
theorem dX4_logs_17 : decode cX4_logs 17 = .ok (.aload_n 0, 1) := sorry
theorem dX4_logs_18 : decode cX4_logs 18 = .ok (.getfield 7, 3) := sorry
theorem dX4_logs_21 : decode cX4_logs 21 = .ok (.sipush 845, 3) := sorry
theorem dX4_logs_24 : decode cX4_logs 24 = .ok (.iload_n 3, 1) := sorry
theorem dX4_logs_25 : decode cX4_logs 25 = .ok (.iadd, 1) := sorry
theorem dX4_logs_26 : decode cX4_logs 26 = .ok (.iconst 4, 1) := sorry
theorem dX4_logs_27 : decode cX4_logs 27 = .ok (.isub, 1) := sorry
theorem dX4_logs_28 : decode cX4_logs 28 = .ok (.iaload, 1) := sorry
theorem dX4_logs_29 : decode cX4_logs 29 = .ok (.iastore, 1) := sorry
theorem dX4_logs_30 : decode cX4_logs 30 = .ok (.iinc 3 (-1), 3) := sorry
theorem dX4_logs_33 : decode cX4_logs 33 = .ok (.goto (-30), 3) := sorry
theorem dX4_logs_36 : decode cX4_logs 36 = .ok (.aload_n 0, 1) := sorry
theorem dX4_logs_37 : decode cX4_logs 37 = .ok (.getfield 7, 3) := sorry
theorem dX4_logs_40 : decode cX4_logs 40 = .ok (.sipush 845, 3) := sorry
theorem dX4_logs_43 : decode cX4_logs 43 = .ok (.iload_n 1, 1) := sorry
theorem dX4_logs_44 : decode cX4_logs 44 = .ok (.invokestatic 280, 3) := sorry
theorem dX4_logs_47 : decode cX4_logs 47 = .ok (.iastore, 1) := sorry
theorem dX4_logs_48 : decode cX4_logs 48 = .ok (.aload_n 0, 1) := sorry
theorem dX4_logs_49 : decode cX4_logs 49 = .ok (.getfield 7, 3) := sorry
theorem dX4_logs_52 : decode cX4_logs 52 = .ok (.sipush 846, 3) := sorry
theorem dX4_logs_55 : decode cX4_logs 55 = .ok (.aload_n 0, 1) := sorry
theorem dX4_logs_56 : decode cX4_logs 56 = .ok (.getfield 7, 3) := sorry
theorem dX4_logs_59 : decode cX4_logs 59 = .ok (.bipush 125, 2) := sorry
theorem dX4_logs_61 : decode cX4_logs 61 = .ok (.iload_n 1, 1) := sorry
theorem dX4_logs_62 : decode cX4_logs 62 = .ok (.iadd, 1) := sorry
theorem dX4_logs_63 : decode cX4_logs 63 = .ok (.iaload, 1) := sorry
theorem dX4_logs_64 : decode cX4_logs 64 = .ok (.iastore, 1) := sorry
theorem dX4_logs_65 : decode cX4_logs 65 = .ok (.aload_n 0, 1) := sorry
theorem dX4_logs_66 : decode cX4_logs 66 = .ok (.getfield 7, 3) := sorry
theorem dX4_logs_69 : decode cX4_logs 69 = .ok (.sipush 847, 3) := sorry
theorem dX4_logs_72 : decode cX4_logs 72 = .ok (.iload_n 2, 1) := sorry
theorem dX4_logs_73 : decode cX4_logs 73 = .ok (.iastore, 1) := sorry
theorem dX4_logs_74 : decode cX4_logs 74 = .ok (.aload_n 0, 1) := sorry
theorem dX4_logs_75 : decode cX4_logs 75 = .ok (.getfield 7, 3) := sorry
theorem dX4_logs_78 : decode cX4_logs 78 = .ok (.sipush 848, 3) := sorry
theorem dX4_logs_81 : decode cX4_logs 81 = .ok (.aload_n 0, 1) := sorry
theorem dX4_logs_82 : decode cX4_logs 82 = .ok (.getfield 7, 3) := sorry
theorem dX4_logs_85 : decode cX4_logs 85 = .ok (.sipush 365, 3) := sorry
theorem dX4_logs_88 : decode cX4_logs 88 = .ok (.iload_n 1, 1) := sorry
theorem dX4_logs_89 : decode cX4_logs 89 = .ok (.iadd, 1) := sorry
theorem dX4_logs_90 : decode cX4_logs 90 = .ok (.iaload, 1) := sorry
theorem dX4_logs_91 : decode cX4_logs 91 = .ok (.iastore, 1) := sorry
theorem dX4_logs_92 : decode cX4_logs 92 = .ok (.aload_n 0, 1) := sorry
theorem dX4_logs_93 : decode cX4_logs 93 = .ok (.getfield 7, 3) := sorry
theorem dX4_logs_96 : decode cX4_logs 96 = .ok (.bipush 19, 2) := sorry
theorem dX4_logs_98 : decode cX4_logs 98 = .ok (.bipush 24, 2) := sorry
theorem dX4_logs_100 : decode cX4_logs 100 = .ok (.aload_n 0, 1) := sorry
theorem dX4_logs_101 : decode cX4_logs 101 = .ok (.getfield 7, 3) := sorry
theorem dX4_logs_104 : decode cX4_logs 104 = .ok (.bipush 19, 2) := sorry
theorem dX4_logs_106 : decode cX4_logs 106 = .ok (.iaload, 1) := sorry
theorem dX4_logs_107 : decode cX4_logs 107 = .ok (.iconst 1, 1) := sorry
theorem dX4_logs_108 : decode cX4_logs 108 = .ok (.iadd, 1) := sorry
theorem dX4_logs_109 : decode cX4_logs 109 = .ok (.invokestatic 237, 3) := sorry
theorem dX4_logs_112 : decode cX4_logs 112 = .ok (.iastore, 1) := sorry
theorem dX4_logs_113 : decode cX4_logs 113 = .ok (.return_, 1) := sorry
abbrev cX4_wouldRun : ByteArray := prog_16_method_94_code
def yX4_wouldRun : MethodName := ⟨RX4, "wouldRun", "(II)I"⟩
def dkwX4_wouldRun_6 : List UInt8 := [180, 0, 7, 21, 5, 42, 180, 0, 16, 21, 5, 46, 79, 132, 5, 1, 167, 255, 231, 21, 4, 172]
abbrev dktX4_wouldRun_6 : List UInt8 := dkwX4_wouldRun_6 ++ []
def dkwX4_wouldRun_5 : List UInt8 := [167, 0, 10, 42, 180, 0, 7, 16, 8, 46, 54, 4, 3, 54, 5, 21, 5, 17, 3, 173, 162, 0, 23, 42]
abbrev dktX4_wouldRun_5 : List UInt8 := dkwX4_wouldRun_5 ++ dktX4_wouldRun_6
def dkwX4_wouldRun_4 : List UInt8 := [160, 0, 13, 42, 180, 0, 7, 16, 15, 46, 167, 0, 24, 28, 5, 160, 0, 12, 42, 180, 0, 7, 4, 46]
abbrev dktX4_wouldRun_4 : List UInt8 := dkwX4_wouldRun_4 ++ dktX4_wouldRun_5
def dkwX4_wouldRun_3 : List UInt8 := [46, 79, 132, 3, 1, 167, 255, 234, 42, 27, 182, 1, 48, 62, 28, 154, 0, 7, 29, 167, 0, 39, 28, 4]
abbrev dktX4_wouldRun_3 : List UInt8 := dkwX4_wouldRun_3 ++ dktX4_wouldRun_4
def dkwX4_wouldRun_2 : List UInt8 := [158, 0, 5, 3, 172, 3, 62, 29, 17, 3, 173, 162, 0, 21, 42, 180, 0, 16, 29, 42, 180, 0, 7, 29]
abbrev dktX4_wouldRun_2 : List UInt8 := dkwX4_wouldRun_2 ++ dktX4_wouldRun_3
def dkwX4_wouldRun_1 : List UInt8 := [167, 0, 17, 28, 3, 6, 184, 0, 115, 154, 0, 7, 6, 167, 0, 4, 3, 181, 0, 92, 42, 180, 0, 92]
abbrev dktX4_wouldRun_1 : List UInt8 := dkwX4_wouldRun_1 ++ dktX4_wouldRun_2
def dkwX4_wouldRun_0 : List UInt8 := [42, 27, 4, 16, 60, 184, 0, 115, 154, 0, 7, 4, 167, 0, 28, 42, 182, 0, 227, 154, 0, 7, 5]
abbrev dktX4_wouldRun_0 : List UInt8 := dkwX4_wouldRun_0 ++ dktX4_wouldRun_1
theorem dksX4_wouldRun_0 : cX4_wouldRun.data.toList.drop 0 = dktX4_wouldRun_0 := sorry
theorem dksX4_wouldRun_1 : cX4_wouldRun.data.toList.drop 23 = dktX4_wouldRun_1 := sorry
theorem dksX4_wouldRun_2 : cX4_wouldRun.data.toList.drop 47 = dktX4_wouldRun_2 := sorry
theorem dksX4_wouldRun_3 : cX4_wouldRun.data.toList.drop 71 = dktX4_wouldRun_3 := sorry
theorem dksX4_wouldRun_4 : cX4_wouldRun.data.toList.drop 95 = dktX4_wouldRun_4 := sorry
theorem dksX4_wouldRun_5 : cX4_wouldRun.data.toList.drop 119 = dktX4_wouldRun_5 := sorry
theorem dksX4_wouldRun_6 : cX4_wouldRun.data.toList.drop 143 = dktX4_wouldRun_6 := sorry
theorem dX4_wouldRun_0 : decode cX4_wouldRun 0 = .ok (.aload_n 0, 1) := sorry
theorem dX4_wouldRun_1 : decode cX4_wouldRun 1 = .ok (.iload_n 1, 1) := sorry
theorem dX4_wouldRun_2 : decode cX4_wouldRun 2 = .ok (.iconst 1, 1) := sorry
theorem dX4_wouldRun_3 : decode cX4_wouldRun 3 = .ok (.bipush 60, 2) := sorry
theorem dX4_wouldRun_5 : decode cX4_wouldRun 5 = .ok (.invokestatic 115, 3) := sorry
theorem dX4_wouldRun_8 : decode cX4_wouldRun 8 = .ok (.ifCond .ne 7, 3) := sorry
theorem dX4_wouldRun_11 : decode cX4_wouldRun 11 = .ok (.iconst 1, 1) := sorry
theorem dX4_wouldRun_12 : decode cX4_wouldRun 12 = .ok (.goto 28, 3) := sorry
theorem dX4_wouldRun_15 : decode cX4_wouldRun 15 = .ok (.aload_n 0, 1) := sorry
theorem dX4_wouldRun_16 : decode cX4_wouldRun 16 = .ok (.invokevirtual 227, 3) := sorry
theorem dX4_wouldRun_19 : decode cX4_wouldRun 19 = .ok (.ifCond .ne 7, 3) := sorry
theorem dX4_wouldRun_22 : decode cX4_wouldRun 22 = .ok (.iconst 2, 1) := sorry
theorem dX4_wouldRun_23 : decode cX4_wouldRun 23 = .ok (.goto 17, 3) := sorry
theorem dX4_wouldRun_26 : decode cX4_wouldRun 26 = .ok (.iload_n 2, 1) := sorry
theorem dX4_wouldRun_27 : decode cX4_wouldRun 27 = .ok (.iconst 0, 1) := sorry
theorem dX4_wouldRun_28 : decode cX4_wouldRun 28 = .ok (.iconst 3, 1) := sorry
theorem dX4_wouldRun_29 : decode cX4_wouldRun 29 = .ok (.invokestatic 115, 3) := sorry
theorem dX4_wouldRun_32 : decode cX4_wouldRun 32 = .ok (.ifCond .ne 7, 3) := sorry
theorem dX4_wouldRun_35 : decode cX4_wouldRun 35 = .ok (.iconst 3, 1) := sorry
theorem dX4_wouldRun_36 : decode cX4_wouldRun 36 = .ok (.goto 4, 3) := sorry
theorem dX4_wouldRun_39 : decode cX4_wouldRun 39 = .ok (.iconst 0, 1) := sorry
theorem dX4_wouldRun_40 : decode cX4_wouldRun 40 = .ok (.putfield 92, 3) := sorry
theorem dX4_wouldRun_43 : decode cX4_wouldRun 43 = .ok (.aload_n 0, 1) := sorry
theorem dX4_wouldRun_44 : decode cX4_wouldRun 44 = .ok (.getfield 92, 3) := sorry
theorem dX4_wouldRun_47 : decode cX4_wouldRun 47 = .ok (.ifCond .le 5, 3) := sorry
theorem dX4_wouldRun_50 : decode cX4_wouldRun 50 = .ok (.iconst 0, 1) := sorry
theorem dX4_wouldRun_51 : decode cX4_wouldRun 51 = .ok (.ireturn, 1) := sorry
theorem dX4_wouldRun_52 : decode cX4_wouldRun 52 = .ok (.iconst 0, 1) := sorry
theorem dX4_wouldRun_53 : decode cX4_wouldRun 53 = .ok (.istore_n 3, 1) := sorry
theorem dX4_wouldRun_54 : decode cX4_wouldRun 54 = .ok (.iload_n 3, 1) := sorry
theorem dX4_wouldRun_55 : decode cX4_wouldRun 55 = .ok (.sipush 941, 3) := sorry
theorem dX4_wouldRun_58 : decode cX4_wouldRun 58 = .ok (.if_icmp .ge 21, 3) := sorry
theorem dX4_wouldRun_61 : decode cX4_wouldRun 61 = .ok (.aload_n 0, 1) := sorry
theorem dX4_wouldRun_62 : decode cX4_wouldRun 62 = .ok (.getfield 16, 3) := sorry
theorem dX4_wouldRun_65 : decode cX4_wouldRun 65 = .ok (.iload_n 3, 1) := sorry
theorem dX4_wouldRun_66 : decode cX4_wouldRun 66 = .ok (.aload_n 0, 1) := sorry
theorem dX4_wouldRun_67 : decode cX4_wouldRun 67 = .ok (.getfield 7, 3) := sorry
theorem dX4_wouldRun_70 : decode cX4_wouldRun 70 = .ok (.iload_n 3, 1) := sorry
theorem dX4_wouldRun_71 : decode cX4_wouldRun 71 = .ok (.iaload, 1) := sorry
theorem dX4_wouldRun_72 : decode cX4_wouldRun 72 = .ok (.iastore, 1) := sorry
theorem dX4_wouldRun_73 : decode cX4_wouldRun 73 = .ok (.iinc 3 1, 3) := sorry
theorem dX4_wouldRun_76 : decode cX4_wouldRun 76 = .ok (.goto (-22), 3) := sorry
theorem dX4_wouldRun_79 : decode cX4_wouldRun 79 = .ok (.aload_n 0, 1) := sorry
theorem dX4_wouldRun_80 : decode cX4_wouldRun 80 = .ok (.iload_n 1, 1) := sorry
theorem dX4_wouldRun_81 : decode cX4_wouldRun 81 = .ok (.invokevirtual 304, 3) := sorry
theorem dX4_wouldRun_84 : decode cX4_wouldRun 84 = .ok (.istore_n 3, 1) := sorry
theorem dX4_wouldRun_85 : decode cX4_wouldRun 85 = .ok (.iload_n 2, 1) := sorry
theorem dX4_wouldRun_86 : decode cX4_wouldRun 86 = .ok (.ifCond .ne 7, 3) := sorry
theorem dX4_wouldRun_89 : decode cX4_wouldRun 89 = .ok (.iload_n 3, 1) := sorry
theorem dX4_wouldRun_90 : decode cX4_wouldRun 90 = .ok (.goto 39, 3) := sorry
theorem dX4_wouldRun_93 : decode cX4_wouldRun 93 = .ok (.iload_n 2, 1) := sorry
theorem dX4_wouldRun_94 : decode cX4_wouldRun 94 = .ok (.iconst 1, 1) := sorry
theorem dX4_wouldRun_95 : decode cX4_wouldRun 95 = .ok (.if_icmp .ne 13, 3) := sorry
theorem dX4_wouldRun_98 : decode cX4_wouldRun 98 = .ok (.aload_n 0, 1) := sorry
theorem dX4_wouldRun_99 : decode cX4_wouldRun 99 = .ok (.getfield 7, 3) := sorry
theorem dX4_wouldRun_102 : decode cX4_wouldRun 102 = .ok (.bipush 15, 2) := sorry
theorem dX4_wouldRun_104 : decode cX4_wouldRun 104 = .ok (.iaload, 1) := sorry
theorem dX4_wouldRun_105 : decode cX4_wouldRun 105 = .ok (.goto 24, 3) := sorry
theorem dX4_wouldRun_108 : decode cX4_wouldRun 108 = .ok (.iload_n 2, 1) := sorry
theorem dX4_wouldRun_109 : decode cX4_wouldRun 109 = .ok (.iconst 2, 1) := sorry
theorem dX4_wouldRun_110 : decode cX4_wouldRun 110 = .ok (.if_icmp .ne 12, 3) := sorry
theorem dX4_wouldRun_113 : decode cX4_wouldRun 113 = .ok (.aload_n 0, 1) := sorry
theorem dX4_wouldRun_114 : decode cX4_wouldRun 114 = .ok (.getfield 7, 3) := sorry
theorem dX4_wouldRun_117 : decode cX4_wouldRun 117 = .ok (.iconst 1, 1) := sorry
theorem dX4_wouldRun_118 : decode cX4_wouldRun 118 = .ok (.iaload, 1) := sorry
theorem dX4_wouldRun_119 : decode cX4_wouldRun 119 = .ok (.goto 10, 3) := sorry
theorem dX4_wouldRun_122 : decode cX4_wouldRun 122 = .ok (.aload_n 0, 1) := sorry
theorem dX4_wouldRun_123 : decode cX4_wouldRun 123 = .ok (.getfield 7, 3) := sorry
theorem dX4_wouldRun_126 : decode cX4_wouldRun 126 = .ok (.bipush 8, 2) := sorry
theorem dX4_wouldRun_128 : decode cX4_wouldRun 128 = .ok (.iaload, 1) := sorry
theorem dX4_wouldRun_129 : decode cX4_wouldRun 129 = .ok (.istore 4, 2) := sorry
theorem dX4_wouldRun_131 : decode cX4_wouldRun 131 = .ok (.iconst 0, 1) := sorry
theorem dX4_wouldRun_132 : decode cX4_wouldRun 132 = .ok (.istore 5, 2) := sorry
theorem dX4_wouldRun_134 : decode cX4_wouldRun 134 = .ok (.iload 5, 2) := sorry
theorem dX4_wouldRun_136 : decode cX4_wouldRun 136 = .ok (.sipush 941, 3) := sorry
theorem dX4_wouldRun_139 : decode cX4_wouldRun 139 = .ok (.if_icmp .ge 23, 3) := sorry
theorem dX4_wouldRun_142 : decode cX4_wouldRun 142 = .ok (.aload_n 0, 1) := sorry
theorem dX4_wouldRun_143 : decode cX4_wouldRun 143 = .ok (.getfield 7, 3) := sorry
theorem dX4_wouldRun_146 : decode cX4_wouldRun 146 = .ok (.iload 5, 2) := sorry
theorem dX4_wouldRun_148 : decode cX4_wouldRun 148 = .ok (.aload_n 0, 1) := sorry
theorem dX4_wouldRun_149 : decode cX4_wouldRun 149 = .ok (.getfield 16, 3) := sorry
theorem dX4_wouldRun_152 : decode cX4_wouldRun 152 = .ok (.iload 5, 2) := sorry
theorem dX4_wouldRun_154 : decode cX4_wouldRun 154 = .ok (.iaload, 1) := sorry
theorem dX4_wouldRun_155 : decode cX4_wouldRun 155 = .ok (.iastore, 1) := sorry
theorem dX4_wouldRun_156 : decode cX4_wouldRun 156 = .ok (.iinc 5 1, 3) := sorry
theorem dX4_wouldRun_159 : decode cX4_wouldRun 159 = .ok (.goto (-25), 3) := sorry
theorem dX4_wouldRun_162 : decode cX4_wouldRun 162 = .ok (.iload 4, 2) := sorry
theorem dX4_wouldRun_164 : decode cX4_wouldRun 164 = .ok (.ireturn, 1) := sorry
abbrev cX4_logCount : ByteArray := prog_16_method_95_code
def yX4_logCount : MethodName := ⟨RX4, "logCount", "()I"⟩
def dkwX4_logCount_0 : List UInt8 := [42, 3, 181, 0, 92, 42, 180, 0, 7, 16, 19, 46, 172]
abbrev dktX4_logCount_0 : List UInt8 := dkwX4_logCount_0 ++ []
theorem dksX4_logCount_0 : cX4_logCount.data.toList.drop 0 = dktX4_logCount_0 := sorry
theorem dX4_logCount_0 : decode cX4_logCount 0 = .ok (.aload_n 0, 1) := sorry
theorem dX4_logCount_1 : decode cX4_logCount 1 = .ok (.iconst 0, 1) := sorry
theorem dX4_logCount_2 : decode cX4_logCount 2 = .ok (.putfield 92, 3) := sorry
theorem dX4_logCount_5 : decode cX4_logCount 5 = .ok (.aload_n 0, 1) := sorry
theorem dX4_logCount_6 : decode cX4_logCount 6 = .ok (.getfield 7, 3) := sorry
theorem dX4_logCount_9 : decode cX4_logCount 9 = .ok (.bipush 19, 2) := sorry
theorem dX4_logCount_11 : decode cX4_logCount 11 = .ok (.iaload, 1) := sorry
theorem dX4_logCount_12 : decode cX4_logCount 12 = .ok (.ireturn, 1) := sorry
abbrev cX4_logField : ByteArray := prog_16_method_96_code
def yX4_logField : MethodName := ⟨RX4, "logField", "(II)I"⟩
def dkwX4_logField_2 : List UInt8 := [180, 0, 7, 17, 3, 77, 7, 27, 104, 96, 28, 96, 46, 167, 0, 4, 2, 172]
abbrev dktX4_logField_2 : List UInt8 := dkwX4_logField_2 ++ []
def dkwX4_logField_1 : List UInt8 := [158, 0, 5, 3, 172, 27, 3, 42, 180, 0, 7, 16, 19, 46, 4, 100, 184, 0, 115, 153, 0, 20, 42]
abbrev dktX4_logField_1 : List UInt8 := dkwX4_logField_1 ++ dktX4_logField_2
def dkwX4_logField_0 : List UInt8 := [42, 28, 3, 6, 184, 0, 115, 153, 0, 7, 3, 167, 0, 4, 4, 181, 0, 92, 42, 180, 0, 92]
abbrev dktX4_logField_0 : List UInt8 := dkwX4_logField_0 ++ dktX4_logField_1
theorem dksX4_logField_0 : cX4_logField.data.toList.drop 0 = dktX4_logField_0 := sorry
theorem dksX4_logField_1 : cX4_logField.data.toList.drop 22 = dktX4_logField_1 := sorry
theorem dksX4_logField_2 : cX4_logField.data.toList.drop 45 = dktX4_logField_2 := sorry
theorem dX4_logField_0 : decode cX4_logField 0 = .ok (.aload_n 0, 1) := sorry
theorem dX4_logField_1 : decode cX4_logField 1 = .ok (.iload_n 2, 1) := sorry
theorem dX4_logField_2 : decode cX4_logField 2 = .ok (.iconst 0, 1) := sorry
theorem dX4_logField_3 : decode cX4_logField 3 = .ok (.iconst 3, 1) := sorry
theorem dX4_logField_4 : decode cX4_logField 4 = .ok (.invokestatic 115, 3) := sorry
theorem dX4_logField_7 : decode cX4_logField 7 = .ok (.ifCond .eq 7, 3) := sorry
theorem dX4_logField_10 : decode cX4_logField 10 = .ok (.iconst 0, 1) := sorry
theorem dX4_logField_11 : decode cX4_logField 11 = .ok (.goto 4, 3) := sorry
theorem dX4_logField_14 : decode cX4_logField 14 = .ok (.iconst 1, 1) := sorry
theorem dX4_logField_15 : decode cX4_logField 15 = .ok (.putfield 92, 3) := sorry
theorem dX4_logField_18 : decode cX4_logField 18 = .ok (.aload_n 0, 1) := sorry
theorem dX4_logField_19 : decode cX4_logField 19 = .ok (.getfield 92, 3) := sorry
theorem dX4_logField_22 : decode cX4_logField 22 = .ok (.ifCond .le 5, 3) := sorry
theorem dX4_logField_25 : decode cX4_logField 25 = .ok (.iconst 0, 1) := sorry
theorem dX4_logField_26 : decode cX4_logField 26 = .ok (.ireturn, 1) := sorry
theorem dX4_logField_27 : decode cX4_logField 27 = .ok (.iload_n 1, 1) := sorry
theorem dX4_logField_28 : decode cX4_logField 28 = .ok (.iconst 0, 1) := sorry
theorem dX4_logField_29 : decode cX4_logField 29 = .ok (.aload_n 0, 1) := sorry
theorem dX4_logField_30 : decode cX4_logField 30 = .ok (.getfield 7, 3) := sorry
theorem dX4_logField_33 : decode cX4_logField 33 = .ok (.bipush 19, 2) := sorry
theorem dX4_logField_35 : decode cX4_logField 35 = .ok (.iaload, 1) := sorry
theorem dX4_logField_36 : decode cX4_logField 36 = .ok (.iconst 1, 1) := sorry
theorem dX4_logField_37 : decode cX4_logField 37 = .ok (.isub, 1) := sorry
theorem dX4_logField_38 : decode cX4_logField 38 = .ok (.invokestatic 115, 3) := sorry
theorem dX4_logField_41 : decode cX4_logField 41 = .ok (.ifCond .eq 20, 3) := sorry
theorem dX4_logField_44 : decode cX4_logField 44 = .ok (.aload_n 0, 1) := sorry
theorem dX4_logField_45 : decode cX4_logField 45 = .ok (.getfield 7, 3) := sorry
theorem dX4_logField_48 : decode cX4_logField 48 = .ok (.sipush 845, 3) := sorry
theorem dX4_logField_51 : decode cX4_logField 51 = .ok (.iconst 4, 1) := sorry
theorem dX4_logField_52 : decode cX4_logField 52 = .ok (.iload_n 1, 1) := sorry
theorem dX4_logField_53 : decode cX4_logField 53 = .ok (.imul, 1) := sorry
theorem dX4_logField_54 : decode cX4_logField 54 = .ok (.iadd, 1) := sorry
theorem dX4_logField_55 : decode cX4_logField 55 = .ok (.iload_n 2, 1) := sorry
theorem dX4_logField_56 : decode cX4_logField 56 = .ok (.iadd, 1) := sorry
theorem dX4_logField_57 : decode cX4_logField 57 = .ok (.iaload, 1) := sorry
theorem dX4_logField_58 : decode cX4_logField 58 = .ok (.goto 4, 3) := sorry
theorem dX4_logField_61 : decode cX4_logField 61 = .ok (.iconst (-1), 1) := sorry
theorem dX4_logField_62 : decode cX4_logField 62 = .ok (.ireturn, 1) := sorry
abbrev cX4_printingAt : ByteArray := prog_16_method_97_code
def yX4_printingAt : MethodName := ⟨RX4, "printingAt", "(I)I"⟩
def dkwX4_printingAt_2 : List UInt8 := [96, 46, 172, 132, 2, 1, 167, 255, 211, 2, 172]
abbrev dktX4_printingAt_2 : List UInt8 := dkwX4_printingAt_2 ++ []
def dkwX4_printingAt_1 : List UInt8 := [17, 3, 77, 7, 28, 104, 96, 5, 96, 46, 27, 160, 0, 16, 42, 180, 0, 7, 17, 3, 77, 7, 28, 104]
abbrev dktX4_printingAt_1 : List UInt8 := dkwX4_printingAt_1 ++ dktX4_printingAt_2
def dkwX4_printingAt_0 : List UInt8 := [42, 3, 181, 0, 92, 3, 61, 28, 42, 180, 0, 7, 16, 19, 46, 162, 0, 40, 42, 180, 0, 7]
abbrev dktX4_printingAt_0 : List UInt8 := dkwX4_printingAt_0 ++ dktX4_printingAt_1
theorem dksX4_printingAt_0 : cX4_printingAt.data.toList.drop 0 = dktX4_printingAt_0 := sorry
theorem dksX4_printingAt_1 : cX4_printingAt.data.toList.drop 22 = dktX4_printingAt_1 := sorry
theorem dksX4_printingAt_2 : cX4_printingAt.data.toList.drop 46 = dktX4_printingAt_2 := sorry
theorem dX4_printingAt_0 : decode cX4_printingAt 0 = .ok (.aload_n 0, 1) := sorry
theorem dX4_printingAt_1 : decode cX4_printingAt 1 = .ok (.iconst 0, 1) := sorry
theorem dX4_printingAt_2 : decode cX4_printingAt 2 = .ok (.putfield 92, 3) := sorry
theorem dX4_printingAt_5 : decode cX4_printingAt 5 = .ok (.iconst 0, 1) := sorry
theorem dX4_printingAt_6 : decode cX4_printingAt 6 = .ok (.istore_n 2, 1) := sorry
theorem dX4_printingAt_7 : decode cX4_printingAt 7 = .ok (.iload_n 2, 1) := sorry
theorem dX4_printingAt_8 : decode cX4_printingAt 8 = .ok (.aload_n 0, 1) := sorry
theorem dX4_printingAt_9 : decode cX4_printingAt 9 = .ok (.getfield 7, 3) := sorry
theorem dX4_printingAt_12 : decode cX4_printingAt 12 = .ok (.bipush 19, 2) := sorry
theorem dX4_printingAt_14 : decode cX4_printingAt 14 = .ok (.iaload, 1) := sorry
theorem dX4_printingAt_15 : decode cX4_printingAt 15 = .ok (.if_icmp .ge 40, 3) := sorry
theorem dX4_printingAt_18 : decode cX4_printingAt 18 = .ok (.aload_n 0, 1) := sorry
theorem dX4_printingAt_19 : decode cX4_printingAt 19 = .ok (.getfield 7, 3) := sorry
theorem dX4_printingAt_22 : decode cX4_printingAt 22 = .ok (.sipush 845, 3) := sorry
theorem dX4_printingAt_25 : decode cX4_printingAt 25 = .ok (.iconst 4, 1) := sorry
theorem dX4_printingAt_26 : decode cX4_printingAt 26 = .ok (.iload_n 2, 1) := sorry
theorem dX4_printingAt_27 : decode cX4_printingAt 27 = .ok (.imul, 1) := sorry
theorem dX4_printingAt_28 : decode cX4_printingAt 28 = .ok (.iadd, 1) := sorry
theorem dX4_printingAt_29 : decode cX4_printingAt 29 = .ok (.iconst 2, 1) := sorry
theorem dX4_printingAt_30 : decode cX4_printingAt 30 = .ok (.iadd, 1) := sorry
theorem dX4_printingAt_31 : decode cX4_printingAt 31 = .ok (.iaload, 1) := sorry
theorem dX4_printingAt_32 : decode cX4_printingAt 32 = .ok (.iload_n 1, 1) := sorry
theorem dX4_printingAt_33 : decode cX4_printingAt 33 = .ok (.if_icmp .ne 16, 3) := sorry
theorem dX4_printingAt_36 : decode cX4_printingAt 36 = .ok (.aload_n 0, 1) := sorry
theorem dX4_printingAt_37 : decode cX4_printingAt 37 = .ok (.getfield 7, 3) := sorry
theorem dX4_printingAt_40 : decode cX4_printingAt 40 = .ok (.sipush 845, 3) := sorry
theorem dX4_printingAt_43 : decode cX4_printingAt 43 = .ok (.iconst 4, 1) := sorry
theorem dX4_printingAt_44 : decode cX4_printingAt 44 = .ok (.iload_n 2, 1) := sorry
theorem dX4_printingAt_45 : decode cX4_printingAt 45 = .ok (.imul, 1) := sorry
theorem dX4_printingAt_46 : decode cX4_printingAt 46 = .ok (.iadd, 1) := sorry
theorem dX4_printingAt_47 : decode cX4_printingAt 47 = .ok (.iaload, 1) := sorry
theorem dX4_printingAt_48 : decode cX4_printingAt 48 = .ok (.ireturn, 1) := sorry
theorem dX4_printingAt_49 : decode cX4_printingAt 49 = .ok (.iinc 2 1, 3) := sorry
theorem dX4_printingAt_52 : decode cX4_printingAt 52 = .ok (.goto (-45), 3) := sorry
theorem dX4_printingAt_55 : decode cX4_printingAt 55 = .ok (.iconst (-1), 1) := sorry
theorem dX4_printingAt_56 : decode cX4_printingAt 56 = .ok (.ireturn, 1) := sorry
abbrev cX4_longestRow : ByteArray := prog_16_method_98_code
def yX4_longestRow : MethodName := ⟨RX4, "longestRow", "()I"⟩
def dkwX4_longestRow_2 : List UInt8 := [61, 27, 28, 184, 0, 210, 60, 132, 3, 1, 167, 255, 210, 27, 172]
abbrev dktX4_longestRow_2 : List UInt8 := dkwX4_longestRow_2 ++ []
def dkwX4_longestRow_1 : List UInt8 := [180, 0, 7, 17, 3, 77, 7, 29, 104, 96, 4, 96, 46, 4, 160, 0, 9, 28, 4, 96, 167, 0, 4, 3]
abbrev dktX4_longestRow_1 : List UInt8 := dkwX4_longestRow_1 ++ dktX4_longestRow_2
def dkwX4_longestRow_0 : List UInt8 := [42, 3, 181, 0, 92, 3, 60, 3, 61, 3, 62, 29, 42, 180, 0, 7, 16, 19, 46, 162, 0, 41, 42]
abbrev dktX4_longestRow_0 : List UInt8 := dkwX4_longestRow_0 ++ dktX4_longestRow_1
theorem dksX4_longestRow_0 : cX4_longestRow.data.toList.drop 0 = dktX4_longestRow_0 := sorry
theorem dksX4_longestRow_1 : cX4_longestRow.data.toList.drop 23 = dktX4_longestRow_1 := sorry
theorem dksX4_longestRow_2 : cX4_longestRow.data.toList.drop 47 = dktX4_longestRow_2 := sorry
theorem dX4_longestRow_0 : decode cX4_longestRow 0 = .ok (.aload_n 0, 1) := sorry
theorem dX4_longestRow_1 : decode cX4_longestRow 1 = .ok (.iconst 0, 1) := sorry
theorem dX4_longestRow_2 : decode cX4_longestRow 2 = .ok (.putfield 92, 3) := sorry
theorem dX4_longestRow_5 : decode cX4_longestRow 5 = .ok (.iconst 0, 1) := sorry
theorem dX4_longestRow_6 : decode cX4_longestRow 6 = .ok (.istore_n 1, 1) := sorry
theorem dX4_longestRow_7 : decode cX4_longestRow 7 = .ok (.iconst 0, 1) := sorry
theorem dX4_longestRow_8 : decode cX4_longestRow 8 = .ok (.istore_n 2, 1) := sorry
theorem dX4_longestRow_9 : decode cX4_longestRow 9 = .ok (.iconst 0, 1) := sorry
theorem dX4_longestRow_10 : decode cX4_longestRow 10 = .ok (.istore_n 3, 1) := sorry
theorem dX4_longestRow_11 : decode cX4_longestRow 11 = .ok (.iload_n 3, 1) := sorry
theorem dX4_longestRow_12 : decode cX4_longestRow 12 = .ok (.aload_n 0, 1) := sorry
theorem dX4_longestRow_13 : decode cX4_longestRow 13 = .ok (.getfield 7, 3) := sorry
theorem dX4_longestRow_16 : decode cX4_longestRow 16 = .ok (.bipush 19, 2) := sorry
theorem dX4_longestRow_18 : decode cX4_longestRow 18 = .ok (.iaload, 1) := sorry
theorem dX4_longestRow_19 : decode cX4_longestRow 19 = .ok (.if_icmp .ge 41, 3) := sorry
theorem dX4_longestRow_22 : decode cX4_longestRow 22 = .ok (.aload_n 0, 1) := sorry
theorem dX4_longestRow_23 : decode cX4_longestRow 23 = .ok (.getfield 7, 3) := sorry
theorem dX4_longestRow_26 : decode cX4_longestRow 26 = .ok (.sipush 845, 3) := sorry
theorem dX4_longestRow_29 : decode cX4_longestRow 29 = .ok (.iconst 4, 1) := sorry
theorem dX4_longestRow_30 : decode cX4_longestRow 30 = .ok (.iload_n 3, 1) := sorry
theorem dX4_longestRow_31 : decode cX4_longestRow 31 = .ok (.imul, 1) := sorry
theorem dX4_longestRow_32 : decode cX4_longestRow 32 = .ok (.iadd, 1) := sorry
theorem dX4_longestRow_33 : decode cX4_longestRow 33 = .ok (.iconst 1, 1) := sorry
theorem dX4_longestRow_34 : decode cX4_longestRow 34 = .ok (.iadd, 1) := sorry
theorem dX4_longestRow_35 : decode cX4_longestRow 35 = .ok (.iaload, 1) := sorry
theorem dX4_longestRow_36 : decode cX4_longestRow 36 = .ok (.iconst 1, 1) := sorry
theorem dX4_longestRow_37 : decode cX4_longestRow 37 = .ok (.if_icmp .ne 9, 3) := sorry
theorem dX4_longestRow_40 : decode cX4_longestRow 40 = .ok (.iload_n 2, 1) := sorry
theorem dX4_longestRow_41 : decode cX4_longestRow 41 = .ok (.iconst 1, 1) := sorry
theorem dX4_longestRow_42 : decode cX4_longestRow 42 = .ok (.iadd, 1) := sorry
theorem dX4_longestRow_43 : decode cX4_longestRow 43 = .ok (.goto 4, 3) := sorry
theorem dX4_longestRow_46 : decode cX4_longestRow 46 = .ok (.iconst 0, 1) := sorry
theorem dX4_longestRow_47 : decode cX4_longestRow 47 = .ok (.istore_n 2, 1) := sorry
theorem dX4_longestRow_48 : decode cX4_longestRow 48 = .ok (.iload_n 1, 1) := sorry
theorem dX4_longestRow_49 : decode cX4_longestRow 49 = .ok (.iload_n 2, 1) := sorry
theorem dX4_longestRow_50 : decode cX4_longestRow 50 = .ok (.invokestatic 210, 3) := sorry
theorem dX4_longestRow_53 : decode cX4_longestRow 53 = .ok (.istore_n 1, 1) := sorry
theorem dX4_longestRow_54 : decode cX4_longestRow 54 = .ok (.iinc 3 1, 3) := sorry
theorem dX4_longestRow_57 : decode cX4_longestRow 57 = .ok (.goto (-46), 3) := sorry
theorem dX4_longestRow_60 : decode cX4_longestRow 60 = .ok (.iload_n 1, 1) := sorry
theorem dX4_longestRow_61 : decode cX4_longestRow 61 = .ok (.ireturn, 1) := sorry
abbrev cX4_trouble : ByteArray := prog_16_method_99_code
def yX4_trouble : MethodName := ⟨RX4, "trouble", "()I"⟩
def dkwX4_trouble_0 : List UInt8 := [42, 3, 181, 0, 92, 42, 180, 0, 7, 16, 15, 46, 172]
abbrev dktX4_trouble_0 : List UInt8 := dkwX4_trouble_0 ++ []
theorem dksX4_trouble_0 : cX4_trouble.data.toList.drop 0 = dktX4_trouble_0 := sorry
theorem dX4_trouble_0 : decode cX4_trouble 0 = .ok (.aload_n 0, 1) := sorry
theorem dX4_trouble_1 : decode cX4_trouble 1 = .ok (.iconst 0, 1) := sorry
theorem dX4_trouble_2 : decode cX4_trouble 2 = .ok (.putfield 92, 3) := sorry
theorem dX4_trouble_5 : decode cX4_trouble 5 = .ok (.aload_n 0, 1) := sorry
theorem dX4_trouble_6 : decode cX4_trouble 6 = .ok (.getfield 7, 3) := sorry
theorem dX4_trouble_9 : decode cX4_trouble 9 = .ok (.bipush 15, 2) := sorry
theorem dX4_trouble_11 : decode cX4_trouble 11 = .ok (.iaload, 1) := sorry
theorem dX4_trouble_12 : decode cX4_trouble 12 = .ok (.ireturn, 1) := sorry
abbrev cX4_causeOfTrouble : ByteArray := prog_16_method_100_code
def yX4_causeOfTrouble : MethodName := ⟨RX4, "causeOfTrouble", "()I"⟩
def dkwX4_causeOfTrouble_0 : List UInt8 := [42, 3, 181, 0, 92, 42, 180, 0, 7, 16, 16, 46, 172]
abbrev dktX4_causeOfTrouble_0 : List UInt8 := dkwX4_causeOfTrouble_0 ++ []
theorem dksX4_causeOfTrouble_0 : cX4_causeOfTrouble.data.toList.drop 0 = dktX4_causeOfTrouble_0 := sorry
theorem dX4_causeOfTrouble_0 : decode cX4_causeOfTrouble 0 = .ok (.aload_n 0, 1) := sorry
theorem dX4_causeOfTrouble_1 : decode cX4_causeOfTrouble 1 = .ok (.iconst 0, 1) := sorry
theorem dX4_causeOfTrouble_2 : decode cX4_causeOfTrouble 2 = .ok (.putfield 92, 3) := sorry
theorem dX4_causeOfTrouble_5 : decode cX4_causeOfTrouble 5 = .ok (.aload_n 0, 1) := sorry
theorem dX4_causeOfTrouble_6 : decode cX4_causeOfTrouble 6 = .ok (.getfield 7, 3) := sorry
theorem dX4_causeOfTrouble_9 : decode cX4_causeOfTrouble 9 = .ok (.bipush 16, 2) := sorry
theorem dX4_causeOfTrouble_11 : decode cX4_causeOfTrouble 11 = .ok (.iaload, 1) := sorry
theorem dX4_causeOfTrouble_12 : decode cX4_causeOfTrouble 12 = .ok (.ireturn, 1) := sorry
abbrev cX4_makeVoid : ByteArray := prog_16_method_101_code
def yX4_makeVoid : MethodName := ⟨RX4, "makeVoid", "(II)I"⟩
def dkwX4_makeVoid_3 : List UInt8 := [16, 23, 92, 46, 4, 96, 79, 42, 27, 5, 182, 1, 18, 172]
abbrev dktX4_makeVoid_3 : List UInt8 := dkwX4_makeVoid_3 ++ []
def dkwX4_makeVoid_2 : List UInt8 := [3, 172, 42, 182, 0, 213, 42, 180, 0, 7, 16, 125, 27, 28, 184, 1, 9, 96, 5, 79, 42, 180, 0, 7]
abbrev dktX4_makeVoid_2 : List UInt8 := dkwX4_makeVoid_2 ++ dktX4_makeVoid_3
def dkwX4_makeVoid_1 : List UInt8 := [184, 1, 9, 96, 46, 4, 159, 0, 7, 5, 167, 0, 4, 3, 181, 0, 92, 42, 180, 0, 92, 158, 0, 5]
abbrev dktX4_makeVoid_1 : List UInt8 := dkwX4_makeVoid_1 ++ dktX4_makeVoid_2
def dkwX4_makeVoid_0 : List UInt8 := [42, 42, 27, 28, 182, 1, 5, 154, 0, 7, 4, 167, 0, 25, 42, 180, 0, 7, 16, 125, 27, 28]
abbrev dktX4_makeVoid_0 : List UInt8 := dkwX4_makeVoid_0 ++ dktX4_makeVoid_1
theorem dksX4_makeVoid_0 : cX4_makeVoid.data.toList.drop 0 = dktX4_makeVoid_0 := sorry
theorem dksX4_makeVoid_1 : cX4_makeVoid.data.toList.drop 22 = dktX4_makeVoid_1 := sorry
theorem dksX4_makeVoid_2 : cX4_makeVoid.data.toList.drop 46 = dktX4_makeVoid_2 := sorry
theorem dksX4_makeVoid_3 : cX4_makeVoid.data.toList.drop 70 = dktX4_makeVoid_3 := sorry
theorem dX4_makeVoid_0 : decode cX4_makeVoid 0 = .ok (.aload_n 0, 1) := sorry
theorem dX4_makeVoid_1 : decode cX4_makeVoid 1 = .ok (.aload_n 0, 1) := sorry
theorem dX4_makeVoid_2 : decode cX4_makeVoid 2 = .ok (.iload_n 1, 1) := sorry
theorem dX4_makeVoid_3 : decode cX4_makeVoid 3 = .ok (.iload_n 2, 1) := sorry
theorem dX4_makeVoid_4 : decode cX4_makeVoid 4 = .ok (.invokevirtual 261, 3) := sorry
theorem dX4_makeVoid_7 : decode cX4_makeVoid 7 = .ok (.ifCond .ne 7, 3) := sorry
theorem dX4_makeVoid_10 : decode cX4_makeVoid 10 = .ok (.iconst 1, 1) := sorry
theorem dX4_makeVoid_11 : decode cX4_makeVoid 11 = .ok (.goto 25, 3) := sorry
theorem dX4_makeVoid_14 : decode cX4_makeVoid 14 = .ok (.aload_n 0, 1) := sorry
theorem dX4_makeVoid_15 : decode cX4_makeVoid 15 = .ok (.getfield 7, 3) := sorry
theorem dX4_makeVoid_18 : decode cX4_makeVoid 18 = .ok (.bipush 125, 2) := sorry
theorem dX4_makeVoid_20 : decode cX4_makeVoid 20 = .ok (.iload_n 1, 1) := sorry
theorem dX4_makeVoid_21 : decode cX4_makeVoid 21 = .ok (.iload_n 2, 1) := sorry
theorem dX4_makeVoid_22 : decode cX4_makeVoid 22 = .ok (.invokestatic 265, 3) := sorry
theorem dX4_makeVoid_25 : decode cX4_makeVoid 25 = .ok (.iadd, 1) := sorry
theorem dX4_makeVoid_26 : decode cX4_makeVoid 26 = .ok (.iaload, 1) := sorry
theorem dX4_makeVoid_27 : decode cX4_makeVoid 27 = .ok (.iconst 1, 1) := sorry
theorem dX4_makeVoid_28 : decode cX4_makeVoid 28 = .ok (.if_icmp .eq 7, 3) := sorry
theorem dX4_makeVoid_31 : decode cX4_makeVoid 31 = .ok (.iconst 2, 1) := sorry
theorem dX4_makeVoid_32 : decode cX4_makeVoid 32 = .ok (.goto 4, 3) := sorry
theorem dX4_makeVoid_35 : decode cX4_makeVoid 35 = .ok (.iconst 0, 1) := sorry
theorem dX4_makeVoid_36 : decode cX4_makeVoid 36 = .ok (.putfield 92, 3) := sorry
theorem dX4_makeVoid_39 : decode cX4_makeVoid 39 = .ok (.aload_n 0, 1) := sorry
theorem dX4_makeVoid_40 : decode cX4_makeVoid 40 = .ok (.getfield 92, 3) := sorry
theorem dX4_makeVoid_43 : decode cX4_makeVoid 43 = .ok (.ifCond .le 5, 3) := sorry
theorem dX4_makeVoid_46 : decode cX4_makeVoid 46 = .ok (.iconst 0, 1) := sorry
theorem dX4_makeVoid_47 : decode cX4_makeVoid 47 = .ok (.ireturn, 1) := sorry
theorem dX4_makeVoid_48 : decode cX4_makeVoid 48 = .ok (.aload_n 0, 1) := sorry
theorem dX4_makeVoid_49 : decode cX4_makeVoid 49 = .ok (.invokevirtual 213, 3) := sorry
theorem dX4_makeVoid_52 : decode cX4_makeVoid 52 = .ok (.aload_n 0, 1) := sorry
theorem dX4_makeVoid_53 : decode cX4_makeVoid 53 = .ok (.getfield 7, 3) := sorry
theorem dX4_makeVoid_56 : decode cX4_makeVoid 56 = .ok (.bipush 125, 2) := sorry
theorem dX4_makeVoid_58 : decode cX4_makeVoid 58 = .ok (.iload_n 1, 1) := sorry
theorem dX4_makeVoid_59 : decode cX4_makeVoid 59 = .ok (.iload_n 2, 1) := sorry
theorem dX4_makeVoid_60 : decode cX4_makeVoid 60 = .ok (.invokestatic 265, 3) := sorry
theorem dX4_makeVoid_63 : decode cX4_makeVoid 63 = .ok (.iadd, 1) := sorry
theorem dX4_makeVoid_64 : decode cX4_makeVoid 64 = .ok (.iconst 2, 1) := sorry
theorem dX4_makeVoid_65 : decode cX4_makeVoid 65 = .ok (.iastore, 1) := sorry
theorem dX4_makeVoid_66 : decode cX4_makeVoid 66 = .ok (.aload_n 0, 1) := sorry
theorem dX4_makeVoid_67 : decode cX4_makeVoid 67 = .ok (.getfield 7, 3) := sorry
theorem dX4_makeVoid_70 : decode cX4_makeVoid 70 = .ok (.bipush 23, 2) := sorry
theorem dX4_makeVoid_72 : decode cX4_makeVoid 72 = .ok (.dup2, 1) := sorry
theorem dX4_makeVoid_73 : decode cX4_makeVoid 73 = .ok (.iaload, 1) := sorry
theorem dX4_makeVoid_74 : decode cX4_makeVoid 74 = .ok (.iconst 1, 1) := sorry
theorem dX4_makeVoid_75 : decode cX4_makeVoid 75 = .ok (.iadd, 1) := sorry
theorem dX4_makeVoid_76 : decode cX4_makeVoid 76 = .ok (.iastore, 1) := sorry
theorem dX4_makeVoid_77 : decode cX4_makeVoid 77 = .ok (.aload_n 0, 1) := sorry
theorem dX4_makeVoid_78 : decode cX4_makeVoid 78 = .ok (.iload_n 1, 1) := sorry
theorem dX4_makeVoid_79 : decode cX4_makeVoid 79 = .ok (.iconst 2, 1) := sorry
theorem dX4_makeVoid_80 : decode cX4_makeVoid 80 = .ok (.invokevirtual 274, 3) := sorry
theorem dX4_makeVoid_83 : decode cX4_makeVoid 83 = .ok (.ireturn, 1) := sorry
abbrev cX4_requeue : ByteArray := prog_16_method_102_code
def yX4_requeue : MethodName := ⟨RX4, "requeue", "(II)I"⟩
def dkwX4_requeue_4 : List UInt8 := [46, 4, 96, 79, 42, 180, 0, 7, 16, 18, 46, 172]
abbrev dktX4_requeue_4 : List UInt8 := dkwX4_requeue_4 ++ []
def dkwX4_requeue_3 : List UInt8 := [17, 2, 93, 42, 180, 0, 7, 16, 18, 46, 96, 27, 28, 184, 1, 9, 79, 42, 180, 0, 7, 16, 18, 92]
abbrev dktX4_requeue_3 : List UInt8 := dkwX4_requeue_3 ++ dktX4_requeue_4
def dkwX4_requeue_2 : List UInt8 := [167, 0, 4, 3, 181, 0, 92, 42, 180, 0, 92, 158, 0, 5, 3, 172, 42, 182, 0, 213, 42, 180, 0, 7]
abbrev dktX4_requeue_2 : List UInt8 := dkwX4_requeue_2 ++ dktX4_requeue_3
def dkwX4_requeue_1 : List UInt8 := [184, 1, 9, 96, 46, 5, 160, 0, 16, 42, 27, 28, 184, 1, 9, 182, 1, 51, 2, 159, 0, 7, 5]
abbrev dktX4_requeue_1 : List UInt8 := dkwX4_requeue_1 ++ dktX4_requeue_2
def dkwX4_requeue_0 : List UInt8 := [42, 42, 27, 28, 182, 1, 5, 154, 0, 7, 4, 167, 0, 38, 42, 180, 0, 7, 16, 125, 27, 28]
abbrev dktX4_requeue_0 : List UInt8 := dkwX4_requeue_0 ++ dktX4_requeue_1
theorem dksX4_requeue_0 : cX4_requeue.data.toList.drop 0 = dktX4_requeue_0 := sorry
theorem dksX4_requeue_1 : cX4_requeue.data.toList.drop 22 = dktX4_requeue_1 := sorry
theorem dksX4_requeue_2 : cX4_requeue.data.toList.drop 45 = dktX4_requeue_2 := sorry
theorem dksX4_requeue_3 : cX4_requeue.data.toList.drop 69 = dktX4_requeue_3 := sorry
theorem dksX4_requeue_4 : cX4_requeue.data.toList.drop 93 = dktX4_requeue_4 := sorry
theorem dX4_requeue_0 : decode cX4_requeue 0 = .ok (.aload_n 0, 1) := sorry
theorem dX4_requeue_1 : decode cX4_requeue 1 = .ok (.aload_n 0, 1) := sorry
theorem dX4_requeue_2 : decode cX4_requeue 2 = .ok (.iload_n 1, 1) := sorry
theorem dX4_requeue_3 : decode cX4_requeue 3 = .ok (.iload_n 2, 1) := sorry
theorem dX4_requeue_4 : decode cX4_requeue 4 = .ok (.invokevirtual 261, 3) := sorry
theorem dX4_requeue_7 : decode cX4_requeue 7 = .ok (.ifCond .ne 7, 3) := sorry
theorem dX4_requeue_10 : decode cX4_requeue 10 = .ok (.iconst 1, 1) := sorry
theorem dX4_requeue_11 : decode cX4_requeue 11 = .ok (.goto 38, 3) := sorry
theorem dX4_requeue_14 : decode cX4_requeue 14 = .ok (.aload_n 0, 1) := sorry
theorem dX4_requeue_15 : decode cX4_requeue 15 = .ok (.getfield 7, 3) := sorry
theorem dX4_requeue_18 : decode cX4_requeue 18 = .ok (.bipush 125, 2) := sorry
theorem dX4_requeue_20 : decode cX4_requeue 20 = .ok (.iload_n 1, 1) := sorry
theorem dX4_requeue_21 : decode cX4_requeue 21 = .ok (.iload_n 2, 1) := sorry
theorem dX4_requeue_22 : decode cX4_requeue 22 = .ok (.invokestatic 265, 3) := sorry
theorem dX4_requeue_25 : decode cX4_requeue 25 = .ok (.iadd, 1) := sorry
theorem dX4_requeue_26 : decode cX4_requeue 26 = .ok (.iaload, 1) := sorry
theorem dX4_requeue_27 : decode cX4_requeue 27 = .ok (.iconst 2, 1) := sorry
theorem dX4_requeue_28 : decode cX4_requeue 28 = .ok (.if_icmp .ne 16, 3) := sorry
theorem dX4_requeue_31 : decode cX4_requeue 31 = .ok (.aload_n 0, 1) := sorry
theorem dX4_requeue_32 : decode cX4_requeue 32 = .ok (.iload_n 1, 1) := sorry
theorem dX4_requeue_33 : decode cX4_requeue 33 = .ok (.iload_n 2, 1) := sorry
theorem dX4_requeue_34 : decode cX4_requeue 34 = .ok (.invokestatic 265, 3) := sorry
theorem dX4_requeue_37 : decode cX4_requeue 37 = .ok (.invokevirtual 307, 3) := sorry
theorem dX4_requeue_40 : decode cX4_requeue 40 = .ok (.iconst (-1), 1) := sorry
theorem dX4_requeue_41 : decode cX4_requeue 41 = .ok (.if_icmp .eq 7, 3) := sorry
theorem dX4_requeue_44 : decode cX4_requeue 44 = .ok (.iconst 2, 1) := sorry
theorem dX4_requeue_45 : decode cX4_requeue 45 = .ok (.goto 4, 3) := sorry
theorem dX4_requeue_48 : decode cX4_requeue 48 = .ok (.iconst 0, 1) := sorry
theorem dX4_requeue_49 : decode cX4_requeue 49 = .ok (.putfield 92, 3) := sorry
theorem dX4_requeue_52 : decode cX4_requeue 52 = .ok (.aload_n 0, 1) := sorry
theorem dX4_requeue_53 : decode cX4_requeue 53 = .ok (.getfield 92, 3) := sorry
theorem dX4_requeue_56 : decode cX4_requeue 56 = .ok (.ifCond .le 5, 3) := sorry
theorem dX4_requeue_59 : decode cX4_requeue 59 = .ok (.iconst 0, 1) := sorry
theorem dX4_requeue_60 : decode cX4_requeue 60 = .ok (.ireturn, 1) := sorry
theorem dX4_requeue_61 : decode cX4_requeue 61 = .ok (.aload_n 0, 1) := sorry
theorem dX4_requeue_62 : decode cX4_requeue 62 = .ok (.invokevirtual 213, 3) := sorry
theorem dX4_requeue_65 : decode cX4_requeue 65 = .ok (.aload_n 0, 1) := sorry
theorem dX4_requeue_66 : decode cX4_requeue 66 = .ok (.getfield 7, 3) := sorry
theorem dX4_requeue_69 : decode cX4_requeue 69 = .ok (.sipush 605, 3) := sorry
theorem dX4_requeue_72 : decode cX4_requeue 72 = .ok (.aload_n 0, 1) := sorry
theorem dX4_requeue_73 : decode cX4_requeue 73 = .ok (.getfield 7, 3) := sorry
theorem dX4_requeue_76 : decode cX4_requeue 76 = .ok (.bipush 18, 2) := sorry
theorem dX4_requeue_78 : decode cX4_requeue 78 = .ok (.iaload, 1) := sorry
theorem dX4_requeue_79 : decode cX4_requeue 79 = .ok (.iadd, 1) := sorry
theorem dX4_requeue_80 : decode cX4_requeue 80 = .ok (.iload_n 1, 1) := sorry
theorem dX4_requeue_81 : decode cX4_requeue 81 = .ok (.iload_n 2, 1) := sorry
theorem dX4_requeue_82 : decode cX4_requeue 82 = .ok (.invokestatic 265, 3) := sorry
theorem dX4_requeue_85 : decode cX4_requeue 85 = .ok (.iastore, 1) := sorry
theorem dX4_requeue_86 : decode cX4_requeue 86 = .ok (.aload_n 0, 1) := sorry
theorem dX4_requeue_87 : decode cX4_requeue 87 = .ok (.getfield 7, 3) := sorry
theorem dX4_requeue_90 : decode cX4_requeue 90 = .ok (.bipush 18, 2) := sorry
theorem dX4_requeue_92 : decode cX4_requeue 92 = .ok (.dup2, 1) := sorry
theorem dX4_requeue_93 : decode cX4_requeue 93 = .ok (.iaload, 1) := sorry
theorem dX4_requeue_94 : decode cX4_requeue 94 = .ok (.iconst 1, 1) := sorry
theorem dX4_requeue_95 : decode cX4_requeue 95 = .ok (.iadd, 1) := sorry
theorem dX4_requeue_96 : decode cX4_requeue 96 = .ok (.iastore, 1) := sorry
theorem dX4_requeue_97 : decode cX4_requeue 97 = .ok (.aload_n 0, 1) := sorry
theorem dX4_requeue_98 : decode cX4_requeue 98 = .ok (.getfield 7, 3) := sorry
theorem dX4_requeue_101 : decode cX4_requeue 101 = .ok (.bipush 18, 2) := sorry
theorem dX4_requeue_103 : decode cX4_requeue 103 = .ok (.iaload, 1) := sorry
theorem dX4_requeue_104 : decode cX4_requeue 104 = .ok (.ireturn, 1) := sorry
abbrev cX4_placeInList : ByteArray := prog_16_method_85_code
def yX4_placeInList : MethodName := ⟨RX4, "placeInList", "(I)I"⟩
def dkwX4_placeInList_1 : List UInt8 := [160, 0, 5, 28, 172, 132, 2, 1, 167, 255, 226, 2, 172]
abbrev dktX4_placeInList_1 : List UInt8 := dkwX4_placeInList_1 ++ []
def dkwX4_placeInList_0 : List UInt8 := [3, 61, 28, 42, 180, 0, 7, 16, 18, 46, 162, 0, 25, 42, 180, 0, 7, 17, 2, 93, 28, 96, 46, 27]
abbrev dktX4_placeInList_0 : List UInt8 := dkwX4_placeInList_0 ++ dktX4_placeInList_1
theorem dksX4_placeInList_0 : cX4_placeInList.data.toList.drop 0 = dktX4_placeInList_0 := sorry
theorem dksX4_placeInList_1 : cX4_placeInList.data.toList.drop 24 = dktX4_placeInList_1 := sorry
theorem dX4_placeInList_0 : decode cX4_placeInList 0 = .ok (.iconst 0, 1) := sorry
theorem dX4_placeInList_1 : decode cX4_placeInList 1 = .ok (.istore_n 2, 1) := sorry
theorem dX4_placeInList_2 : decode cX4_placeInList 2 = .ok (.iload_n 2, 1) := sorry
theorem dX4_placeInList_3 : decode cX4_placeInList 3 = .ok (.aload_n 0, 1) := sorry
theorem dX4_placeInList_4 : decode cX4_placeInList 4 = .ok (.getfield 7, 3) := sorry
theorem dX4_placeInList_7 : decode cX4_placeInList 7 = .ok (.bipush 18, 2) := sorry
theorem dX4_placeInList_9 : decode cX4_placeInList 9 = .ok (.iaload, 1) := sorry
theorem dX4_placeInList_10 : decode cX4_placeInList 10 = .ok (.if_icmp .ge 25, 3) := sorry
theorem dX4_placeInList_13 : decode cX4_placeInList 13 = .ok (.aload_n 0, 1) := sorry
theorem dX4_placeInList_14 : decode cX4_placeInList 14 = .ok (.getfield 7, 3) := sorry
theorem dX4_placeInList_17 : decode cX4_placeInList 17 = .ok (.sipush 605, 3) := sorry
theorem dX4_placeInList_20 : decode cX4_placeInList 20 = .ok (.iload_n 2, 1) := sorry
theorem dX4_placeInList_21 : decode cX4_placeInList 21 = .ok (.iadd, 1) := sorry
theorem dX4_placeInList_22 : decode cX4_placeInList 22 = .ok (.iaload, 1) := sorry
theorem dX4_placeInList_23 : decode cX4_placeInList 23 = .ok (.iload_n 1, 1) := sorry
theorem dX4_placeInList_24 : decode cX4_placeInList 24 = .ok (.if_icmp .ne 5, 3) := sorry
theorem dX4_placeInList_27 : decode cX4_placeInList 27 = .ok (.iload_n 2, 1) := sorry
theorem dX4_placeInList_28 : decode cX4_placeInList 28 = .ok (.ireturn, 1) := sorry
theorem dX4_placeInList_29 : decode cX4_placeInList 29 = .ok (.iinc 2 1, 3) := sorry
theorem dX4_placeInList_32 : decode cX4_placeInList 32 = .ok (.goto (-30), 3) := sorry
theorem dX4_placeInList_35 : decode cX4_placeInList 35 = .ok (.iconst (-1), 1) := sorry
theorem dX4_placeInList_36 : decode cX4_placeInList 36 = .ok (.ireturn, 1) := sorry
abbrev cX4_unqueue : ByteArray := prog_16_method_103_code
def yX4_unqueue : MethodName := ⟨RX4, "unqueue", "(II)I"⟩
def dkwX4_unqueue_2 : List UInt8 := [42, 42, 27, 28, 184, 1, 9, 182, 1, 51, 182, 1, 30, 42, 180, 0, 7, 16, 18, 46, 172]
abbrev dktX4_unqueue_2 : List UInt8 := dkwX4_unqueue_2 ++ []
def dkwX4_unqueue_1 : List UInt8 := [160, 0, 7, 5, 167, 0, 4, 3, 181, 0, 92, 42, 180, 0, 92, 158, 0, 5, 3, 172, 42, 182, 0, 213]
abbrev dktX4_unqueue_1 : List UInt8 := dkwX4_unqueue_1 ++ dktX4_unqueue_2
def dkwX4_unqueue_0 : List UInt8 := [42, 42, 27, 28, 182, 1, 5, 154, 0, 7, 4, 167, 0, 21, 42, 27, 28, 184, 1, 9, 182, 1, 51, 2]
abbrev dktX4_unqueue_0 : List UInt8 := dkwX4_unqueue_0 ++ dktX4_unqueue_1
theorem dksX4_unqueue_0 : cX4_unqueue.data.toList.drop 0 = dktX4_unqueue_0 := sorry
theorem dksX4_unqueue_1 : cX4_unqueue.data.toList.drop 24 = dktX4_unqueue_1 := sorry
theorem dksX4_unqueue_2 : cX4_unqueue.data.toList.drop 48 = dktX4_unqueue_2 := sorry
theorem dX4_unqueue_0 : decode cX4_unqueue 0 = .ok (.aload_n 0, 1) := sorry
theorem dX4_unqueue_1 : decode cX4_unqueue 1 = .ok (.aload_n 0, 1) := sorry
theorem dX4_unqueue_2 : decode cX4_unqueue 2 = .ok (.iload_n 1, 1) := sorry
theorem dX4_unqueue_3 : decode cX4_unqueue 3 = .ok (.iload_n 2, 1) := sorry
theorem dX4_unqueue_4 : decode cX4_unqueue 4 = .ok (.invokevirtual 261, 3) := sorry
theorem dX4_unqueue_7 : decode cX4_unqueue 7 = .ok (.ifCond .ne 7, 3) := sorry
theorem dX4_unqueue_10 : decode cX4_unqueue 10 = .ok (.iconst 1, 1) := sorry
theorem dX4_unqueue_11 : decode cX4_unqueue 11 = .ok (.goto 21, 3) := sorry
theorem dX4_unqueue_14 : decode cX4_unqueue 14 = .ok (.aload_n 0, 1) := sorry
theorem dX4_unqueue_15 : decode cX4_unqueue 15 = .ok (.iload_n 1, 1) := sorry
theorem dX4_unqueue_16 : decode cX4_unqueue 16 = .ok (.iload_n 2, 1) := sorry
theorem dX4_unqueue_17 : decode cX4_unqueue 17 = .ok (.invokestatic 265, 3) := sorry
theorem dX4_unqueue_20 : decode cX4_unqueue 20 = .ok (.invokevirtual 307, 3) := sorry
theorem dX4_unqueue_23 : decode cX4_unqueue 23 = .ok (.iconst (-1), 1) := sorry
theorem dX4_unqueue_24 : decode cX4_unqueue 24 = .ok (.if_icmp .ne 7, 3) := sorry
theorem dX4_unqueue_27 : decode cX4_unqueue 27 = .ok (.iconst 2, 1) := sorry
theorem dX4_unqueue_28 : decode cX4_unqueue 28 = .ok (.goto 4, 3) := sorry
theorem dX4_unqueue_31 : decode cX4_unqueue 31 = .ok (.iconst 0, 1) := sorry
theorem dX4_unqueue_32 : decode cX4_unqueue 32 = .ok (.putfield 92, 3) := sorry
theorem dX4_unqueue_35 : decode cX4_unqueue 35 = .ok (.aload_n 0, 1) := sorry
theorem dX4_unqueue_36 : decode cX4_unqueue 36 = .ok (.getfield 92, 3) := sorry
theorem dX4_unqueue_39 : decode cX4_unqueue 39 = .ok (.ifCond .le 5, 3) := sorry
theorem dX4_unqueue_42 : decode cX4_unqueue 42 = .ok (.iconst 0, 1) := sorry
theorem dX4_unqueue_43 : decode cX4_unqueue 43 = .ok (.ireturn, 1) := sorry
theorem dX4_unqueue_44 : decode cX4_unqueue 44 = .ok (.aload_n 0, 1) := sorry
theorem dX4_unqueue_45 : decode cX4_unqueue 45 = .ok (.invokevirtual 213, 3) := sorry
theorem dX4_unqueue_48 : decode cX4_unqueue 48 = .ok (.aload_n 0, 1) := sorry
theorem dX4_unqueue_49 : decode cX4_unqueue 49 = .ok (.aload_n 0, 1) := sorry
theorem dX4_unqueue_50 : decode cX4_unqueue 50 = .ok (.iload_n 1, 1) := sorry
theorem dX4_unqueue_51 : decode cX4_unqueue 51 = .ok (.iload_n 2, 1) := sorry
theorem dX4_unqueue_52 : decode cX4_unqueue 52 = .ok (.invokestatic 265, 3) := sorry
theorem dX4_unqueue_55 : decode cX4_unqueue 55 = .ok (.invokevirtual 307, 3) := sorry
theorem dX4_unqueue_58 : decode cX4_unqueue 58 = .ok (.invokevirtual 286, 3) := sorry
theorem dX4_unqueue_61 : decode cX4_unqueue 61 = .ok (.aload_n 0, 1) := sorry
theorem dX4_unqueue_62 : decode cX4_unqueue 62 = .ok (.getfield 7, 3) := sorry
theorem dX4_unqueue_65 : decode cX4_unqueue 65 = .ok (.bipush 18, 2) := sorry
theorem dX4_unqueue_67 : decode cX4_unqueue 67 = .ok (.iaload, 1) := sorry
theorem dX4_unqueue_68 : decode cX4_unqueue 68 = .ok (.ireturn, 1) := sorry
abbrev cX4_abandon : ByteArray := prog_16_method_104_code
def yX4_abandon : MethodName := ⟨RX4, "abandon", "(I)I"⟩
def dkwX4_abandon_5 : List UInt8 := [172]
abbrev dktX4_abandon_5 : List UInt8 := dkwX4_abandon_5 ++ []
def dkwX4_abandon_4 : List UInt8 := [182, 1, 51, 182, 1, 30, 132, 3, 1, 167, 255, 189, 42, 180, 0, 7, 16, 23, 92, 46, 28, 96, 79, 28]
abbrev dktX4_abandon_4 : List UInt8 := dkwX4_abandon_4 ++ dktX4_abandon_5
def dkwX4_abandon_3 : List UInt8 := [21, 4, 96, 5, 79, 132, 2, 1, 42, 21, 4, 182, 1, 51, 2, 159, 0, 13, 42, 42, 21, 4]
abbrev dktX4_abandon_3 : List UInt8 := dkwX4_abandon_3 ++ dktX4_abandon_4
def dkwX4_abandon_2 : List UInt8 := [184, 1, 9, 54, 4, 42, 180, 0, 7, 16, 125, 21, 4, 96, 46, 154, 0, 17, 42, 180, 0, 7, 16, 125]
abbrev dktX4_abandon_2 : List UInt8 := dkwX4_abandon_2 ++ dktX4_abandon_3
def dkwX4_abandon_1 : List UInt8 := [3, 172, 42, 182, 0, 213, 3, 61, 3, 62, 29, 42, 180, 0, 39, 27, 46, 162, 0, 63, 27, 29]
abbrev dktX4_abandon_1 : List UInt8 := dkwX4_abandon_1 ++ dktX4_abandon_2
def dkwX4_abandon_0 : List UInt8 := [42, 42, 27, 182, 1, 2, 153, 0, 7, 3, 167, 0, 4, 4, 181, 0, 92, 42, 180, 0, 92, 158, 0, 5]
abbrev dktX4_abandon_0 : List UInt8 := dkwX4_abandon_0 ++ dktX4_abandon_1
theorem dksX4_abandon_0 : cX4_abandon.data.toList.drop 0 = dktX4_abandon_0 := sorry
theorem dksX4_abandon_1 : cX4_abandon.data.toList.drop 24 = dktX4_abandon_1 := sorry
theorem dksX4_abandon_2 : cX4_abandon.data.toList.drop 46 = dktX4_abandon_2 := sorry
theorem dksX4_abandon_3 : cX4_abandon.data.toList.drop 70 = dktX4_abandon_3 := sorry
theorem dksX4_abandon_4 : cX4_abandon.data.toList.drop 92 = dktX4_abandon_4 := sorry
theorem dksX4_abandon_5 : cX4_abandon.data.toList.drop 116 = dktX4_abandon_5 := sorry
theorem dX4_abandon_0 : decode cX4_abandon 0 = .ok (.aload_n 0, 1) := sorry
theorem dX4_abandon_1 : decode cX4_abandon 1 = .ok (.aload_n 0, 1) := sorry
theorem dX4_abandon_2 : decode cX4_abandon 2 = .ok (.iload_n 1, 1) := sorry
theorem dX4_abandon_3 : decode cX4_abandon 3 = .ok (.invokevirtual 258, 3) := sorry
theorem dX4_abandon_6 : decode cX4_abandon 6 = .ok (.ifCond .eq 7, 3) := sorry
theorem dX4_abandon_9 : decode cX4_abandon 9 = .ok (.iconst 0, 1) := sorry
theorem dX4_abandon_10 : decode cX4_abandon 10 = .ok (.goto 4, 3) := sorry
theorem dX4_abandon_13 : decode cX4_abandon 13 = .ok (.iconst 1, 1) := sorry
theorem dX4_abandon_14 : decode cX4_abandon 14 = .ok (.putfield 92, 3) := sorry
theorem dX4_abandon_17 : decode cX4_abandon 17 = .ok (.aload_n 0, 1) := sorry
theorem dX4_abandon_18 : decode cX4_abandon 18 = .ok (.getfield 92, 3) := sorry
theorem dX4_abandon_21 : decode cX4_abandon 21 = .ok (.ifCond .le 5, 3) := sorry
theorem dX4_abandon_24 : decode cX4_abandon 24 = .ok (.iconst 0, 1) := sorry
theorem dX4_abandon_25 : decode cX4_abandon 25 = .ok (.ireturn, 1) := sorry
theorem dX4_abandon_26 : decode cX4_abandon 26 = .ok (.aload_n 0, 1) := sorry
theorem dX4_abandon_27 : decode cX4_abandon 27 = .ok (.invokevirtual 213, 3) := sorry
theorem dX4_abandon_30 : decode cX4_abandon 30 = .ok (.iconst 0, 1) := sorry
theorem dX4_abandon_31 : decode cX4_abandon 31 = .ok (.istore_n 2, 1) := sorry
theorem dX4_abandon_32 : decode cX4_abandon 32 = .ok (.iconst 0, 1) := sorry
theorem dX4_abandon_33 : decode cX4_abandon 33 = .ok (.istore_n 3, 1) := sorry
theorem dX4_abandon_34 : decode cX4_abandon 34 = .ok (.iload_n 3, 1) := sorry
theorem dX4_abandon_35 : decode cX4_abandon 35 = .ok (.aload_n 0, 1) := sorry
theorem dX4_abandon_36 : decode cX4_abandon 36 = .ok (.getfield 39, 3) := sorry
theorem dX4_abandon_39 : decode cX4_abandon 39 = .ok (.iload_n 1, 1) := sorry
theorem dX4_abandon_40 : decode cX4_abandon 40 = .ok (.iaload, 1) := sorry
theorem dX4_abandon_41 : decode cX4_abandon 41 = .ok (.if_icmp .ge 63, 3) := sorry
theorem dX4_abandon_44 : decode cX4_abandon 44 = .ok (.iload_n 1, 1) := sorry
theorem dX4_abandon_45 : decode cX4_abandon 45 = .ok (.iload_n 3, 1) := sorry
theorem dX4_abandon_46 : decode cX4_abandon 46 = .ok (.invokestatic 265, 3) := sorry
theorem dX4_abandon_49 : decode cX4_abandon 49 = .ok (.istore 4, 2) := sorry
theorem dX4_abandon_51 : decode cX4_abandon 51 = .ok (.aload_n 0, 1) := sorry
theorem dX4_abandon_52 : decode cX4_abandon 52 = .ok (.getfield 7, 3) := sorry
theorem dX4_abandon_55 : decode cX4_abandon 55 = .ok (.bipush 125, 2) := sorry
theorem dX4_abandon_57 : decode cX4_abandon 57 = .ok (.iload 4, 2) := sorry
theorem dX4_abandon_59 : decode cX4_abandon 59 = .ok (.iadd, 1) := sorry
theorem dX4_abandon_60 : decode cX4_abandon 60 = .ok (.iaload, 1) := sorry
theorem dX4_abandon_61 : decode cX4_abandon 61 = .ok (.ifCond .ne 17, 3) := sorry
theorem dX4_abandon_64 : decode cX4_abandon 64 = .ok (.aload_n 0, 1) := sorry
theorem dX4_abandon_65 : decode cX4_abandon 65 = .ok (.getfield 7, 3) := sorry
theorem dX4_abandon_68 : decode cX4_abandon 68 = .ok (.bipush 125, 2) := sorry
theorem dX4_abandon_70 : decode cX4_abandon 70 = .ok (.iload 4, 2) := sorry
theorem dX4_abandon_72 : decode cX4_abandon 72 = .ok (.iadd, 1) := sorry
theorem dX4_abandon_73 : decode cX4_abandon 73 = .ok (.iconst 2, 1) := sorry
theorem dX4_abandon_74 : decode cX4_abandon 74 = .ok (.iastore, 1) := sorry
theorem dX4_abandon_75 : decode cX4_abandon 75 = .ok (.iinc 2 1, 3) := sorry
theorem dX4_abandon_78 : decode cX4_abandon 78 = .ok (.aload_n 0, 1) := sorry
theorem dX4_abandon_79 : decode cX4_abandon 79 = .ok (.iload 4, 2) := sorry
theorem dX4_abandon_81 : decode cX4_abandon 81 = .ok (.invokevirtual 307, 3) := sorry
theorem dX4_abandon_84 : decode cX4_abandon 84 = .ok (.iconst (-1), 1) := sorry
theorem dX4_abandon_85 : decode cX4_abandon 85 = .ok (.if_icmp .eq 13, 3) := sorry
theorem dX4_abandon_88 : decode cX4_abandon 88 = .ok (.aload_n 0, 1) := sorry
theorem dX4_abandon_89 : decode cX4_abandon 89 = .ok (.aload_n 0, 1) := sorry
theorem dX4_abandon_90 : decode cX4_abandon 90 = .ok (.iload 4, 2) := sorry
theorem dX4_abandon_92 : decode cX4_abandon 92 = .ok (.invokevirtual 307, 3) := sorry
theorem dX4_abandon_95 : decode cX4_abandon 95 = .ok (.invokevirtual 286, 3) := sorry
theorem dX4_abandon_98 : decode cX4_abandon 98 = .ok (.iinc 3 1, 3) := sorry
theorem dX4_abandon_101 : decode cX4_abandon 101 = .ok (.goto (-67), 3) := sorry
theorem dX4_abandon_104 : decode cX4_abandon 104 = .ok (.aload_n 0, 1) := sorry
theorem dX4_abandon_105 : decode cX4_abandon 105 = .ok (.getfield 7, 3) := sorry
theorem dX4_abandon_108 : decode cX4_abandon 108 = .ok (.bipush 23, 2) := sorry
theorem dX4_abandon_110 : decode cX4_abandon 110 = .ok (.dup2, 1) := sorry
theorem dX4_abandon_111 : decode cX4_abandon 111 = .ok (.iaload, 1) := sorry
theorem dX4_abandon_112 : decode cX4_abandon 112 = .ok (.iload_n 2, 1) := sorry
theorem dX4_abandon_113 : decode cX4_abandon 113 = .ok (.iadd, 1) := sorry
theorem dX4_abandon_114 : decode cX4_abandon 114 = .ok (.iastore, 1) := sorry
theorem dX4_abandon_115 : decode cX4_abandon 115 = .ok (.iload_n 2, 1) := sorry
theorem dX4_abandon_116 : decode cX4_abandon 116 = .ok (.ireturn, 1) := sorry
abbrev cX4_ribbonLasts : ByteArray := prog_16_method_105_code
def yX4_ribbonLasts : MethodName := ⟨RX4, "ribbonLasts", "()I"⟩
def dkwX4_ribbonLasts_3 : List UInt8 := [46, 27, 108, 172]
abbrev dktX4_ribbonLasts_3 : List UInt8 := dkwX4_ribbonLasts_3 ++ []
def dkwX4_ribbonLasts_2 : List UInt8 := [180, 0, 189, 100, 184, 0, 210, 60, 27, 154, 0, 9, 17, 3, 231, 167, 0, 12, 42, 180, 0, 7, 16, 8]
abbrev dktX4_ribbonLasts_2 : List UInt8 := dkwX4_ribbonLasts_2 ++ dktX4_ribbonLasts_3
def dkwX4_ribbonLasts_1 : List UInt8 := [172, 3, 42, 180, 0, 7, 16, 11, 46, 42, 180, 0, 189, 42, 180, 0, 29, 96, 184, 0, 237, 42]
abbrev dktX4_ribbonLasts_1 : List UInt8 := dkwX4_ribbonLasts_1 ++ dktX4_ribbonLasts_2
def dkwX4_ribbonLasts_0 : List UInt8 := [42, 42, 182, 0, 227, 153, 0, 7, 3, 167, 0, 4, 4, 181, 0, 92, 42, 180, 0, 92, 158, 0, 5, 3]
abbrev dktX4_ribbonLasts_0 : List UInt8 := dkwX4_ribbonLasts_0 ++ dktX4_ribbonLasts_1
theorem dksX4_ribbonLasts_0 : cX4_ribbonLasts.data.toList.drop 0 = dktX4_ribbonLasts_0 := sorry
theorem dksX4_ribbonLasts_1 : cX4_ribbonLasts.data.toList.drop 24 = dktX4_ribbonLasts_1 := sorry
theorem dksX4_ribbonLasts_2 : cX4_ribbonLasts.data.toList.drop 46 = dktX4_ribbonLasts_2 := sorry
theorem dksX4_ribbonLasts_3 : cX4_ribbonLasts.data.toList.drop 70 = dktX4_ribbonLasts_3 := sorry
theorem dX4_ribbonLasts_0 : decode cX4_ribbonLasts 0 = .ok (.aload_n 0, 1) := sorry
theorem dX4_ribbonLasts_1 : decode cX4_ribbonLasts 1 = .ok (.aload_n 0, 1) := sorry
theorem dX4_ribbonLasts_2 : decode cX4_ribbonLasts 2 = .ok (.invokevirtual 227, 3) := sorry
theorem dX4_ribbonLasts_5 : decode cX4_ribbonLasts 5 = .ok (.ifCond .eq 7, 3) := sorry
theorem dX4_ribbonLasts_8 : decode cX4_ribbonLasts 8 = .ok (.iconst 0, 1) := sorry
theorem dX4_ribbonLasts_9 : decode cX4_ribbonLasts 9 = .ok (.goto 4, 3) := sorry
theorem dX4_ribbonLasts_12 : decode cX4_ribbonLasts 12 = .ok (.iconst 1, 1) := sorry
theorem dX4_ribbonLasts_13 : decode cX4_ribbonLasts 13 = .ok (.putfield 92, 3) := sorry
theorem dX4_ribbonLasts_16 : decode cX4_ribbonLasts 16 = .ok (.aload_n 0, 1) := sorry
theorem dX4_ribbonLasts_17 : decode cX4_ribbonLasts 17 = .ok (.getfield 92, 3) := sorry
theorem dX4_ribbonLasts_20 : decode cX4_ribbonLasts 20 = .ok (.ifCond .le 5, 3) := sorry
theorem dX4_ribbonLasts_23 : decode cX4_ribbonLasts 23 = .ok (.iconst 0, 1) := sorry
theorem dX4_ribbonLasts_24 : decode cX4_ribbonLasts 24 = .ok (.ireturn, 1) := sorry
theorem dX4_ribbonLasts_25 : decode cX4_ribbonLasts 25 = .ok (.iconst 0, 1) := sorry
theorem dX4_ribbonLasts_26 : decode cX4_ribbonLasts 26 = .ok (.aload_n 0, 1) := sorry
theorem dX4_ribbonLasts_27 : decode cX4_ribbonLasts 27 = .ok (.getfield 7, 3) := sorry
theorem dX4_ribbonLasts_30 : decode cX4_ribbonLasts 30 = .ok (.bipush 11, 2) := sorry
theorem dX4_ribbonLasts_32 : decode cX4_ribbonLasts 32 = .ok (.iaload, 1) := sorry
theorem dX4_ribbonLasts_33 : decode cX4_ribbonLasts 33 = .ok (.aload_n 0, 1) := sorry
theorem dX4_ribbonLasts_34 : decode cX4_ribbonLasts 34 = .ok (.getfield 189, 3) := sorry
theorem dX4_ribbonLasts_37 : decode cX4_ribbonLasts 37 = .ok (.aload_n 0, 1) := sorry
theorem dX4_ribbonLasts_38 : decode cX4_ribbonLasts 38 = .ok (.getfield 29, 3) := sorry
theorem dX4_ribbonLasts_41 : decode cX4_ribbonLasts 41 = .ok (.iadd, 1) := sorry
theorem dX4_ribbonLasts_42 : decode cX4_ribbonLasts 42 = .ok (.invokestatic 237, 3) := sorry
theorem dX4_ribbonLasts_45 : decode cX4_ribbonLasts 45 = .ok (.aload_n 0, 1) := sorry
theorem dX4_ribbonLasts_46 : decode cX4_ribbonLasts 46 = .ok (.getfield 189, 3) := sorry
theorem dX4_ribbonLasts_49 : decode cX4_ribbonLasts 49 = .ok (.isub, 1) := sorry
theorem dX4_ribbonLasts_50 : decode cX4_ribbonLasts 50 = .ok (.invokestatic 210, 3) := sorry
theorem dX4_ribbonLasts_53 : decode cX4_ribbonLasts 53 = .ok (.istore_n 1, 1) := sorry
theorem dX4_ribbonLasts_54 : decode cX4_ribbonLasts 54 = .ok (.iload_n 1, 1) := sorry
theorem dX4_ribbonLasts_55 : decode cX4_ribbonLasts 55 = .ok (.ifCond .ne 9, 3) := sorry
theorem dX4_ribbonLasts_58 : decode cX4_ribbonLasts 58 = .ok (.sipush 999, 3) := sorry
theorem dX4_ribbonLasts_61 : decode cX4_ribbonLasts 61 = .ok (.goto 12, 3) := sorry
theorem dX4_ribbonLasts_64 : decode cX4_ribbonLasts 64 = .ok (.aload_n 0, 1) := sorry
theorem dX4_ribbonLasts_65 : decode cX4_ribbonLasts 65 = .ok (.getfield 7, 3) := sorry
theorem dX4_ribbonLasts_68 : decode cX4_ribbonLasts 68 = .ok (.bipush 8, 2) := sorry
theorem dX4_ribbonLasts_70 : decode cX4_ribbonLasts 70 = .ok (.iaload, 1) := sorry
theorem dX4_ribbonLasts_71 : decode cX4_ribbonLasts 71 = .ok (.iload_n 1, 1) := sorry
theorem dX4_ribbonLasts_72 : decode cX4_ribbonLasts 72 = .ok (.idiv, 1) := sorry
theorem dX4_ribbonLasts_73 : decode cX4_ribbonLasts 73 = .ok (.ireturn, 1) := sorry
abbrev cX4_webLasts : ByteArray := prog_16_method_106_code
def yX4_webLasts : MethodName := ⟨RX4, "webLasts", "()I"⟩
def dkwX4_webLasts_2 : List UInt8 := [172]
abbrev dktX4_webLasts_2 : List UInt8 := dkwX4_webLasts_2 ++ []
def dkwX4_webLasts_1 : List UInt8 := [167, 0, 24, 3, 42, 182, 0, 204, 42, 180, 0, 7, 16, 14, 46, 100, 184, 0, 210, 42, 182, 0, 249, 108]
abbrev dktX4_webLasts_1 : List UInt8 := dkwX4_webLasts_1 ++ dktX4_webLasts_2
def dkwX4_webLasts_0 : List UInt8 := [42, 42, 182, 0, 227, 153, 0, 7, 3, 167, 0, 4, 4, 181, 0, 92, 42, 180, 0, 92, 158, 0, 7, 3]
abbrev dktX4_webLasts_0 : List UInt8 := dkwX4_webLasts_0 ++ dktX4_webLasts_1
theorem dksX4_webLasts_0 : cX4_webLasts.data.toList.drop 0 = dktX4_webLasts_0 := sorry
theorem dksX4_webLasts_1 : cX4_webLasts.data.toList.drop 24 = dktX4_webLasts_1 := sorry
theorem dksX4_webLasts_2 : cX4_webLasts.data.toList.drop 48 = dktX4_webLasts_2 := sorry
theorem dX4_webLasts_0 : decode cX4_webLasts 0 = .ok (.aload_n 0, 1) := sorry
theorem dX4_webLasts_1 : decode cX4_webLasts 1 = .ok (.aload_n 0, 1) := sorry
theorem dX4_webLasts_2 : decode cX4_webLasts 2 = .ok (.invokevirtual 227, 3) := sorry
theorem dX4_webLasts_5 : decode cX4_webLasts 5 = .ok (.ifCond .eq 7, 3) := sorry
theorem dX4_webLasts_8 : decode cX4_webLasts 8 = .ok (.iconst 0, 1) := sorry
theorem dX4_webLasts_9 : decode cX4_webLasts 9 = .ok (.goto 4, 3) := sorry
theorem dX4_webLasts_12 : decode cX4_webLasts 12 = .ok (.iconst 1, 1) := sorry
theorem dX4_webLasts_13 : decode cX4_webLasts 13 = .ok (.putfield 92, 3) := sorry
theorem dX4_webLasts_16 : decode cX4_webLasts 16 = .ok (.aload_n 0, 1) := sorry
theorem dX4_webLasts_17 : decode cX4_webLasts 17 = .ok (.getfield 92, 3) := sorry
theorem dX4_webLasts_20 : decode cX4_webLasts 20 = .ok (.ifCond .le 7, 3) := sorry
theorem dX4_webLasts_23 : decode cX4_webLasts 23 = .ok (.iconst 0, 1) := sorry
theorem dX4_webLasts_24 : decode cX4_webLasts 24 = .ok (.goto 24, 3) := sorry
theorem dX4_webLasts_27 : decode cX4_webLasts 27 = .ok (.iconst 0, 1) := sorry
theorem dX4_webLasts_28 : decode cX4_webLasts 28 = .ok (.aload_n 0, 1) := sorry
theorem dX4_webLasts_29 : decode cX4_webLasts 29 = .ok (.invokevirtual 204, 3) := sorry
theorem dX4_webLasts_32 : decode cX4_webLasts 32 = .ok (.aload_n 0, 1) := sorry
theorem dX4_webLasts_33 : decode cX4_webLasts 33 = .ok (.getfield 7, 3) := sorry
theorem dX4_webLasts_36 : decode cX4_webLasts 36 = .ok (.bipush 14, 2) := sorry
theorem dX4_webLasts_38 : decode cX4_webLasts 38 = .ok (.iaload, 1) := sorry
theorem dX4_webLasts_39 : decode cX4_webLasts 39 = .ok (.isub, 1) := sorry
theorem dX4_webLasts_40 : decode cX4_webLasts 40 = .ok (.invokestatic 210, 3) := sorry
theorem dX4_webLasts_43 : decode cX4_webLasts 43 = .ok (.aload_n 0, 1) := sorry
theorem dX4_webLasts_44 : decode cX4_webLasts 44 = .ok (.invokevirtual 249, 3) := sorry
theorem dX4_webLasts_47 : decode cX4_webLasts 47 = .ok (.idiv, 1) := sorry
theorem dX4_webLasts_48 : decode cX4_webLasts 48 = .ok (.ireturn, 1) := sorry
abbrev cX4_toPrint : ByteArray := prog_16_method_107_code
def yX4_toPrint : MethodName := ⟨RX4, "toPrint", "()I"⟩
def dkwX4_toPrint_1 : List UInt8 := [42, 28, 3, 182, 1, 18, 96, 60, 132, 2, 1, 167, 255, 236, 27, 172]
abbrev dktX4_toPrint_1 : List UInt8 := dkwX4_toPrint_1 ++ []
def dkwX4_toPrint_0 : List UInt8 := [42, 3, 181, 0, 92, 42, 180, 0, 7, 16, 18, 46, 60, 3, 61, 28, 42, 180, 0, 192, 162, 0, 18, 27]
abbrev dktX4_toPrint_0 : List UInt8 := dkwX4_toPrint_0 ++ dktX4_toPrint_1
theorem dksX4_toPrint_0 : cX4_toPrint.data.toList.drop 0 = dktX4_toPrint_0 := sorry
theorem dksX4_toPrint_1 : cX4_toPrint.data.toList.drop 24 = dktX4_toPrint_1 := sorry
theorem dX4_toPrint_0 : decode cX4_toPrint 0 = .ok (.aload_n 0, 1) := sorry
theorem dX4_toPrint_1 : decode cX4_toPrint 1 = .ok (.iconst 0, 1) := sorry
theorem dX4_toPrint_2 : decode cX4_toPrint 2 = .ok (.putfield 92, 3) := sorry
theorem dX4_toPrint_5 : decode cX4_toPrint 5 = .ok (.aload_n 0, 1) := sorry
theorem dX4_toPrint_6 : decode cX4_toPrint 6 = .ok (.getfield 7, 3) := sorry
theorem dX4_toPrint_9 : decode cX4_toPrint 9 = .ok (.bipush 18, 2) := sorry
theorem dX4_toPrint_11 : decode cX4_toPrint 11 = .ok (.iaload, 1) := sorry
theorem dX4_toPrint_12 : decode cX4_toPrint 12 = .ok (.istore_n 1, 1) := sorry
theorem dX4_toPrint_13 : decode cX4_toPrint 13 = .ok (.iconst 0, 1) := sorry
theorem dX4_toPrint_14 : decode cX4_toPrint 14 = .ok (.istore_n 2, 1) := sorry
theorem dX4_toPrint_15 : decode cX4_toPrint 15 = .ok (.iload_n 2, 1) := sorry
theorem dX4_toPrint_16 : decode cX4_toPrint 16 = .ok (.aload_n 0, 1) := sorry
theorem dX4_toPrint_17 : decode cX4_toPrint 17 = .ok (.getfield 192, 3) := sorry
theorem dX4_toPrint_20 : decode cX4_toPrint 20 = .ok (.if_icmp .ge 18, 3) := sorry
theorem dX4_toPrint_23 : decode cX4_toPrint 23 = .ok (.iload_n 1, 1) := sorry
theorem dX4_toPrint_24 : decode cX4_toPrint 24 = .ok (.aload_n 0, 1) := sorry
theorem dX4_toPrint_25 : decode cX4_toPrint 25 = .ok (.iload_n 2, 1) := sorry
theorem dX4_toPrint_26 : decode cX4_toPrint 26 = .ok (.iconst 0, 1) := sorry
theorem dX4_toPrint_27 : decode cX4_toPrint 27 = .ok (.invokevirtual 274, 3) := sorry
theorem dX4_toPrint_30 : decode cX4_toPrint 30 = .ok (.iadd, 1) := sorry
theorem dX4_toPrint_31 : decode cX4_toPrint 31 = .ok (.istore_n 1, 1) := sorry
theorem dX4_toPrint_32 : decode cX4_toPrint 32 = .ok (.iinc 2 1, 3) := sorry
theorem dX4_toPrint_35 : decode cX4_toPrint 35 = .ok (.goto (-20), 3) := sorry
theorem dX4_toPrint_38 : decode cX4_toPrint 38 = .ok (.iload_n 1, 1) := sorry
theorem dX4_toPrint_39 : decode cX4_toPrint 39 = .ok (.ireturn, 1) := sorry
abbrev cX4_yieldPercent : ByteArray := prog_16_method_108_code
def yX4_yieldPercent : MethodName := ⟨RX4, "yieldPercent", "()I"⟩
def dkwX4_yieldPercent_1 : List UInt8 := [180, 0, 7, 16, 21, 46, 104, 42, 180, 0, 7, 16, 20, 46, 108, 172]
abbrev dktX4_yieldPercent_1 : List UInt8 := dkwX4_yieldPercent_1 ++ []
def dkwX4_yieldPercent_0 : List UInt8 := [42, 3, 181, 0, 92, 42, 180, 0, 7, 16, 20, 46, 154, 0, 8, 16, 100, 167, 0, 21, 16, 100, 42]
abbrev dktX4_yieldPercent_0 : List UInt8 := dkwX4_yieldPercent_0 ++ dktX4_yieldPercent_1
theorem dksX4_yieldPercent_0 : cX4_yieldPercent.data.toList.drop 0 = dktX4_yieldPercent_0 := sorry
theorem dksX4_yieldPercent_1 : cX4_yieldPercent.data.toList.drop 23 = dktX4_yieldPercent_1 := sorry
theorem dX4_yieldPercent_0 : decode cX4_yieldPercent 0 = .ok (.aload_n 0, 1) := sorry
theorem dX4_yieldPercent_1 : decode cX4_yieldPercent 1 = .ok (.iconst 0, 1) := sorry
theorem dX4_yieldPercent_2 : decode cX4_yieldPercent 2 = .ok (.putfield 92, 3) := sorry
theorem dX4_yieldPercent_5 : decode cX4_yieldPercent 5 = .ok (.aload_n 0, 1) := sorry
theorem dX4_yieldPercent_6 : decode cX4_yieldPercent 6 = .ok (.getfield 7, 3) := sorry
theorem dX4_yieldPercent_9 : decode cX4_yieldPercent 9 = .ok (.bipush 20, 2) := sorry
theorem dX4_yieldPercent_11 : decode cX4_yieldPercent 11 = .ok (.iaload, 1) := sorry
theorem dX4_yieldPercent_12 : decode cX4_yieldPercent 12 = .ok (.ifCond .ne 8, 3) := sorry
theorem dX4_yieldPercent_15 : decode cX4_yieldPercent 15 = .ok (.bipush 100, 2) := sorry
theorem dX4_yieldPercent_17 : decode cX4_yieldPercent 17 = .ok (.goto 21, 3) := sorry
theorem dX4_yieldPercent_20 : decode cX4_yieldPercent 20 = .ok (.bipush 100, 2) := sorry
theorem dX4_yieldPercent_22 : decode cX4_yieldPercent 22 = .ok (.aload_n 0, 1) := sorry
theorem dX4_yieldPercent_23 : decode cX4_yieldPercent 23 = .ok (.getfield 7, 3) := sorry
theorem dX4_yieldPercent_26 : decode cX4_yieldPercent 26 = .ok (.bipush 21, 2) := sorry
theorem dX4_yieldPercent_28 : decode cX4_yieldPercent 28 = .ok (.iaload, 1) := sorry
theorem dX4_yieldPercent_29 : decode cX4_yieldPercent 29 = .ok (.imul, 1) := sorry
theorem dX4_yieldPercent_30 : decode cX4_yieldPercent 30 = .ok (.aload_n 0, 1) := sorry
theorem dX4_yieldPercent_31 : decode cX4_yieldPercent 31 = .ok (.getfield 7, 3) := sorry
theorem dX4_yieldPercent_34 : decode cX4_yieldPercent 34 = .ok (.bipush 20, 2) := sorry
theorem dX4_yieldPercent_36 : decode cX4_yieldPercent 36 = .ok (.iaload, 1) := sorry
theorem dX4_yieldPercent_37 : decode cX4_yieldPercent 37 = .ok (.idiv, 1) := sorry
theorem dX4_yieldPercent_38 : decode cX4_yieldPercent 38 = .ok (.ireturn, 1) := sorry
abbrev cX4_total : ByteArray := prog_16_method_109_code
def yX4_total : MethodName := ⟨RX4, "total", "(I)I"⟩
def dkwX4_total_1 : List UInt8 := [158, 0, 7, 3, 167, 0, 12, 42, 180, 0, 7, 16, 20, 27, 96, 46, 172]
abbrev dktX4_total_1 : List UInt8 := dkwX4_total_1 ++ []
def dkwX4_total_0 : List UInt8 := [42, 27, 3, 8, 184, 0, 115, 153, 0, 7, 3, 167, 0, 4, 4, 181, 0, 92, 42, 180, 0, 92]
abbrev dktX4_total_0 : List UInt8 := dkwX4_total_0 ++ dktX4_total_1
theorem dksX4_total_0 : cX4_total.data.toList.drop 0 = dktX4_total_0 := sorry
theorem dksX4_total_1 : cX4_total.data.toList.drop 22 = dktX4_total_1 := sorry
theorem dX4_total_0 : decode cX4_total 0 = .ok (.aload_n 0, 1) := sorry
theorem dX4_total_1 : decode cX4_total 1 = .ok (.iload_n 1, 1) := sorry
theorem dX4_total_2 : decode cX4_total 2 = .ok (.iconst 0, 1) := sorry
theorem dX4_total_3 : decode cX4_total 3 = .ok (.iconst 5, 1) := sorry
theorem dX4_total_4 : decode cX4_total 4 = .ok (.invokestatic 115, 3) := sorry
theorem dX4_total_7 : decode cX4_total 7 = .ok (.ifCond .eq 7, 3) := sorry
theorem dX4_total_10 : decode cX4_total 10 = .ok (.iconst 0, 1) := sorry
theorem dX4_total_11 : decode cX4_total 11 = .ok (.goto 4, 3) := sorry
theorem dX4_total_14 : decode cX4_total 14 = .ok (.iconst 1, 1) := sorry
theorem dX4_total_15 : decode cX4_total 15 = .ok (.putfield 92, 3) := sorry
theorem dX4_total_18 : decode cX4_total 18 = .ok (.aload_n 0, 1) := sorry
theorem dX4_total_19 : decode cX4_total 19 = .ok (.getfield 92, 3) := sorry
theorem dX4_total_22 : decode cX4_total 22 = .ok (.ifCond .le 7, 3) := sorry
theorem dX4_total_25 : decode cX4_total 25 = .ok (.iconst 0, 1) := sorry
theorem dX4_total_26 : decode cX4_total 26 = .ok (.goto 12, 3) := sorry
theorem dX4_total_29 : decode cX4_total 29 = .ok (.aload_n 0, 1) := sorry
theorem dX4_total_30 : decode cX4_total 30 = .ok (.getfield 7, 3) := sorry
theorem dX4_total_33 : decode cX4_total 33 = .ok (.bipush 20, 2) := sorry
theorem dX4_total_35 : decode cX4_total 35 = .ok (.iload_n 1, 1) := sorry
theorem dX4_total_36 : decode cX4_total 36 = .ok (.iadd, 1) := sorry
theorem dX4_total_37 : decode cX4_total 37 = .ok (.iaload, 1) := sorry
theorem dX4_total_38 : decode cX4_total 38 = .ok (.ireturn, 1) := sorry
abbrev cX4_formatSerial : ByteArray := prog_16_method_113_code
def yX4_formatSerial : MethodName := ⟨RX4, "formatSerial", "(II)I"⟩
def dkwX4_formatSerial_6 : List UInt8 := [182, 1, 65, 42, 180, 1, 54, 172]
abbrev dktX4_formatSerial_6 : List UInt8 := dkwX4_formatSerial_6 ++ []
def dkwX4_formatSerial_5 : List UInt8 := [16, 45, 182, 1, 59, 42, 16, 48, 29, 184, 1, 15, 96, 182, 1, 59, 42, 27, 28, 184, 1, 9]
abbrev dktX4_formatSerial_5 : List UInt8 := dkwX4_formatSerial_5 ++ dktX4_formatSerial_6
def dkwX4_formatSerial_4 : List UInt8 := [182, 1, 59, 21, 4, 16, 10, 108, 54, 4, 167, 255, 230, 42, 180, 0, 48, 27, 51, 153, 0, 20, 42]
abbrev dktX4_formatSerial_4 : List UInt8 := dkwX4_formatSerial_4 ++ dktX4_formatSerial_5
def dkwX4_formatSerial_3 : List UInt8 := [54, 4, 132, 5, 1, 167, 255, 235, 21, 4, 158, 0, 27, 42, 16, 48, 29, 21, 4, 108, 16, 10, 112, 96]
abbrev dktX4_formatSerial_3 : List UInt8 := dkwX4_formatSerial_3 ++ dktX4_formatSerial_4
def dkwX4_formatSerial_2 : List UInt8 := [62, 4, 54, 4, 4, 54, 5, 21, 5, 42, 180, 0, 45, 27, 46, 162, 0, 16, 21, 4, 16, 10, 104]
abbrev dktX4_formatSerial_2 : List UInt8 := dkwX4_formatSerial_2 ++ dktX4_formatSerial_3
def dkwX4_formatSerial_1 : List UInt8 := [158, 0, 5, 3, 172, 42, 3, 181, 1, 54, 42, 27, 182, 1, 62, 42, 27, 28, 184, 1, 9, 182, 1, 12]
abbrev dktX4_formatSerial_1 : List UInt8 := dkwX4_formatSerial_1 ++ dktX4_formatSerial_2
def dkwX4_formatSerial_0 : List UInt8 := [42, 42, 27, 28, 182, 1, 5, 153, 0, 7, 3, 167, 0, 4, 4, 181, 0, 92, 42, 180, 0, 92]
abbrev dktX4_formatSerial_0 : List UInt8 := dkwX4_formatSerial_0 ++ dktX4_formatSerial_1
theorem dksX4_formatSerial_0 : cX4_formatSerial.data.toList.drop 0 = dktX4_formatSerial_0 := sorry
theorem dksX4_formatSerial_1 : cX4_formatSerial.data.toList.drop 22 = dktX4_formatSerial_1 := sorry
theorem dksX4_formatSerial_2 : cX4_formatSerial.data.toList.drop 46 = dktX4_formatSerial_2 := sorry
theorem dksX4_formatSerial_3 : cX4_formatSerial.data.toList.drop 69 = dktX4_formatSerial_3 := sorry
theorem dksX4_formatSerial_4 : cX4_formatSerial.data.toList.drop 93 = dktX4_formatSerial_4 := sorry
theorem dksX4_formatSerial_5 : cX4_formatSerial.data.toList.drop 116 = dktX4_formatSerial_5 := sorry
theorem dksX4_formatSerial_6 : cX4_formatSerial.data.toList.drop 138 = dktX4_formatSerial_6 := sorry
theorem dX4_formatSerial_0 : decode cX4_formatSerial 0 = .ok (.aload_n 0, 1) := sorry
theorem dX4_formatSerial_1 : decode cX4_formatSerial 1 = .ok (.aload_n 0, 1) := sorry
theorem dX4_formatSerial_2 : decode cX4_formatSerial 2 = .ok (.iload_n 1, 1) := sorry
theorem dX4_formatSerial_3 : decode cX4_formatSerial 3 = .ok (.iload_n 2, 1) := sorry
theorem dX4_formatSerial_4 : decode cX4_formatSerial 4 = .ok (.invokevirtual 261, 3) := sorry
theorem dX4_formatSerial_7 : decode cX4_formatSerial 7 = .ok (.ifCond .eq 7, 3) := sorry
theorem dX4_formatSerial_10 : decode cX4_formatSerial 10 = .ok (.iconst 0, 1) := sorry
theorem dX4_formatSerial_11 : decode cX4_formatSerial 11 = .ok (.goto 4, 3) := sorry
theorem dX4_formatSerial_14 : decode cX4_formatSerial 14 = .ok (.iconst 1, 1) := sorry
theorem dX4_formatSerial_15 : decode cX4_formatSerial 15 = .ok (.putfield 92, 3) := sorry
theorem dX4_formatSerial_18 : decode cX4_formatSerial 18 = .ok (.aload_n 0, 1) := sorry
theorem dX4_formatSerial_19 : decode cX4_formatSerial 19 = .ok (.getfield 92, 3) := sorry
theorem dX4_formatSerial_22 : decode cX4_formatSerial 22 = .ok (.ifCond .le 5, 3) := sorry
theorem dX4_formatSerial_25 : decode cX4_formatSerial 25 = .ok (.iconst 0, 1) := sorry
theorem dX4_formatSerial_26 : decode cX4_formatSerial 26 = .ok (.ireturn, 1) := sorry
theorem dX4_formatSerial_27 : decode cX4_formatSerial 27 = .ok (.aload_n 0, 1) := sorry
theorem dX4_formatSerial_28 : decode cX4_formatSerial 28 = .ok (.iconst 0, 1) := sorry
theorem dX4_formatSerial_29 : decode cX4_formatSerial 29 = .ok (.putfield 310, 3) := sorry
theorem dX4_formatSerial_32 : decode cX4_formatSerial 32 = .ok (.aload_n 0, 1) := sorry
theorem dX4_formatSerial_33 : decode cX4_formatSerial 33 = .ok (.iload_n 1, 1) := sorry
theorem dX4_formatSerial_34 : decode cX4_formatSerial 34 = .ok (.invokevirtual 318, 3) := sorry
theorem dX4_formatSerial_37 : decode cX4_formatSerial 37 = .ok (.aload_n 0, 1) := sorry
theorem dX4_formatSerial_38 : decode cX4_formatSerial 38 = .ok (.iload_n 1, 1) := sorry
theorem dX4_formatSerial_39 : decode cX4_formatSerial 39 = .ok (.iload_n 2, 1) := sorry
theorem dX4_formatSerial_40 : decode cX4_formatSerial 40 = .ok (.invokestatic 265, 3) := sorry
theorem dX4_formatSerial_43 : decode cX4_formatSerial 43 = .ok (.invokevirtual 268, 3) := sorry
theorem dX4_formatSerial_46 : decode cX4_formatSerial 46 = .ok (.istore_n 3, 1) := sorry
theorem dX4_formatSerial_47 : decode cX4_formatSerial 47 = .ok (.iconst 1, 1) := sorry
theorem dX4_formatSerial_48 : decode cX4_formatSerial 48 = .ok (.istore 4, 2) := sorry
theorem dX4_formatSerial_50 : decode cX4_formatSerial 50 = .ok (.iconst 1, 1) := sorry
theorem dX4_formatSerial_51 : decode cX4_formatSerial 51 = .ok (.istore 5, 2) := sorry
theorem dX4_formatSerial_53 : decode cX4_formatSerial 53 = .ok (.iload 5, 2) := sorry
theorem dX4_formatSerial_55 : decode cX4_formatSerial 55 = .ok (.aload_n 0, 1) := sorry
theorem dX4_formatSerial_56 : decode cX4_formatSerial 56 = .ok (.getfield 45, 3) := sorry
theorem dX4_formatSerial_59 : decode cX4_formatSerial 59 = .ok (.iload_n 1, 1) := sorry
theorem dX4_formatSerial_60 : decode cX4_formatSerial 60 = .ok (.iaload, 1) := sorry
theorem dX4_formatSerial_61 : decode cX4_formatSerial 61 = .ok (.if_icmp .ge 16, 3) := sorry
theorem dX4_formatSerial_64 : decode cX4_formatSerial 64 = .ok (.iload 4, 2) := sorry
theorem dX4_formatSerial_66 : decode cX4_formatSerial 66 = .ok (.bipush 10, 2) := sorry
theorem dX4_formatSerial_68 : decode cX4_formatSerial 68 = .ok (.imul, 1) := sorry
theorem dX4_formatSerial_69 : decode cX4_formatSerial 69 = .ok (.istore 4, 2) := sorry
theorem dX4_formatSerial_71 : decode cX4_formatSerial 71 = .ok (.iinc 5 1, 3) := sorry
theorem dX4_formatSerial_74 : decode cX4_formatSerial 74 = .ok (.goto (-21), 3) := sorry
theorem dX4_formatSerial_77 : decode cX4_formatSerial 77 = .ok (.iload 4, 2) := sorry
theorem dX4_formatSerial_79 : decode cX4_formatSerial 79 = .ok (.ifCond .le 27, 3) := sorry
theorem dX4_formatSerial_82 : decode cX4_formatSerial 82 = .ok (.aload_n 0, 1) := sorry
theorem dX4_formatSerial_83 : decode cX4_formatSerial 83 = .ok (.bipush 48, 2) := sorry
theorem dX4_formatSerial_85 : decode cX4_formatSerial 85 = .ok (.iload_n 3, 1) := sorry
theorem dX4_formatSerial_86 : decode cX4_formatSerial 86 = .ok (.iload 4, 2) := sorry
theorem dX4_formatSerial_88 : decode cX4_formatSerial 88 = .ok (.idiv, 1) := sorry
theorem dX4_formatSerial_89 : decode cX4_formatSerial 89 = .ok (.bipush 10, 2) := sorry
theorem dX4_formatSerial_91 : decode cX4_formatSerial 91 = .ok (.irem, 1) := sorry
theorem dX4_formatSerial_92 : decode cX4_formatSerial 92 = .ok (.iadd, 1) := sorry
theorem dX4_formatSerial_93 : decode cX4_formatSerial 93 = .ok (.invokevirtual 315, 3) := sorry
theorem dX4_formatSerial_96 : decode cX4_formatSerial 96 = .ok (.iload 4, 2) := sorry
theorem dX4_formatSerial_98 : decode cX4_formatSerial 98 = .ok (.bipush 10, 2) := sorry
theorem dX4_formatSerial_100 : decode cX4_formatSerial 100 = .ok (.idiv, 1) := sorry
theorem dX4_formatSerial_101 : decode cX4_formatSerial 101 = .ok (.istore 4, 2) := sorry
theorem dX4_formatSerial_103 : decode cX4_formatSerial 103 = .ok (.goto (-26), 3) := sorry
theorem dX4_formatSerial_106 : decode cX4_formatSerial 106 = .ok (.aload_n 0, 1) := sorry
theorem dX4_formatSerial_107 : decode cX4_formatSerial 107 = .ok (.getfield 48, 3) := sorry
theorem dX4_formatSerial_110 : decode cX4_formatSerial 110 = .ok (.iload_n 1, 1) := sorry
theorem dX4_formatSerial_111 : decode cX4_formatSerial 111 = .ok (.baload, 1) := sorry
theorem dX4_formatSerial_112 : decode cX4_formatSerial 112 = .ok (.ifCond .eq 20, 3) := sorry
theorem dX4_formatSerial_115 : decode cX4_formatSerial 115 = .ok (.aload_n 0, 1) := sorry
theorem dX4_formatSerial_116 : decode cX4_formatSerial 116 = .ok (.bipush 45, 2) := sorry
theorem dX4_formatSerial_118 : decode cX4_formatSerial 118 = .ok (.invokevirtual 315, 3) := sorry
theorem dX4_formatSerial_121 : decode cX4_formatSerial 121 = .ok (.aload_n 0, 1) := sorry
theorem dX4_formatSerial_122 : decode cX4_formatSerial 122 = .ok (.bipush 48, 2) := sorry
theorem dX4_formatSerial_124 : decode cX4_formatSerial 124 = .ok (.iload_n 3, 1) := sorry
theorem dX4_formatSerial_125 : decode cX4_formatSerial 125 = .ok (.invokestatic 271, 3) := sorry
theorem dX4_formatSerial_128 : decode cX4_formatSerial 128 = .ok (.iadd, 1) := sorry
theorem dX4_formatSerial_129 : decode cX4_formatSerial 129 = .ok (.invokevirtual 315, 3) := sorry
theorem dX4_formatSerial_132 : decode cX4_formatSerial 132 = .ok (.aload_n 0, 1) := sorry
theorem dX4_formatSerial_133 : decode cX4_formatSerial 133 = .ok (.iload_n 1, 1) := sorry
theorem dX4_formatSerial_134 : decode cX4_formatSerial 134 = .ok (.iload_n 2, 1) := sorry
theorem dX4_formatSerial_135 : decode cX4_formatSerial 135 = .ok (.invokestatic 265, 3) := sorry
theorem dX4_formatSerial_138 : decode cX4_formatSerial 138 = .ok (.invokevirtual 321, 3) := sorry
theorem dX4_formatSerial_141 : decode cX4_formatSerial 141 = .ok (.aload_n 0, 1) := sorry
theorem dX4_formatSerial_142 : decode cX4_formatSerial 142 = .ok (.getfield 310, 3) := sorry
theorem dX4_formatSerial_145 : decode cX4_formatSerial 145 = .ok (.ireturn, 1) := sorry
abbrev cX4_putName : ByteArray := prog_16_method_111_code
def yX4_putName : MethodName := ⟨RX4, "putName", "(I)V"⟩
def dkwX4_putName_2 : List UInt8 := [20, 1, 57, 127, 136, 16, 96, 96, 182, 1, 59, 132, 3, 255, 167, 255, 227, 42, 16, 32, 182, 1, 59, 177]
abbrev dktX4_putName_2 : List UInt8 := dkwX4_putName_2 ++ []
def dkwX4_putName_1 : List UInt8 := [167, 255, 241, 28, 4, 100, 62, 29, 155, 0, 31, 42, 42, 180, 0, 32, 27, 47, 8, 29, 104, 123]
abbrev dktX4_putName_1 : List UInt8 := dkwX4_putName_1 ++ dktX4_putName_2
def dkwX4_putName_0 : List UInt8 := [3, 61, 42, 180, 0, 32, 27, 47, 66, 33, 9, 148, 158, 0, 15, 132, 2, 1, 33, 20, 0, 145, 109, 66]
abbrev dktX4_putName_0 : List UInt8 := dkwX4_putName_0 ++ dktX4_putName_1
theorem dksX4_putName_0 : cX4_putName.data.toList.drop 0 = dktX4_putName_0 := sorry
theorem dksX4_putName_1 : cX4_putName.data.toList.drop 24 = dktX4_putName_1 := sorry
theorem dksX4_putName_2 : cX4_putName.data.toList.drop 46 = dktX4_putName_2 := sorry
theorem dX4_putName_0 : decode cX4_putName 0 = .ok (.iconst 0, 1) := sorry
theorem dX4_putName_1 : decode cX4_putName 1 = .ok (.istore_n 2, 1) := sorry
theorem dX4_putName_2 : decode cX4_putName 2 = .ok (.aload_n 0, 1) := sorry
theorem dX4_putName_3 : decode cX4_putName 3 = .ok (.getfield 32, 3) := sorry
theorem dX4_putName_6 : decode cX4_putName 6 = .ok (.iload_n 1, 1) := sorry
theorem dX4_putName_7 : decode cX4_putName 7 = .ok (.laload, 1) := sorry
theorem dX4_putName_8 : decode cX4_putName 8 = .ok (.lstore_n 3, 1) := sorry
theorem dX4_putName_9 : decode cX4_putName 9 = .ok (.lload_n 3, 1) := sorry
theorem dX4_putName_10 : decode cX4_putName 10 = .ok (.lconst 0, 1) := sorry
theorem dX4_putName_11 : decode cX4_putName 11 = .ok (.lcmp, 1) := sorry
theorem dX4_putName_12 : decode cX4_putName 12 = .ok (.ifCond .le 15, 3) := sorry
theorem dX4_putName_15 : decode cX4_putName 15 = .ok (.iinc 2 1, 3) := sorry
theorem dX4_putName_18 : decode cX4_putName 18 = .ok (.lload_n 3, 1) := sorry
theorem dX4_putName_19 : decode cX4_putName 19 = .ok (.ldc2_w 145, 3) := sorry
theorem dX4_putName_22 : decode cX4_putName 22 = .ok (.ldiv, 1) := sorry
theorem dX4_putName_23 : decode cX4_putName 23 = .ok (.lstore_n 3, 1) := sorry
theorem dX4_putName_24 : decode cX4_putName 24 = .ok (.goto (-15), 3) := sorry
theorem dX4_putName_27 : decode cX4_putName 27 = .ok (.iload_n 2, 1) := sorry
theorem dX4_putName_28 : decode cX4_putName 28 = .ok (.iconst 1, 1) := sorry
theorem dX4_putName_29 : decode cX4_putName 29 = .ok (.isub, 1) := sorry
theorem dX4_putName_30 : decode cX4_putName 30 = .ok (.istore_n 3, 1) := sorry
theorem dX4_putName_31 : decode cX4_putName 31 = .ok (.iload_n 3, 1) := sorry
theorem dX4_putName_32 : decode cX4_putName 32 = .ok (.ifCond .lt 31, 3) := sorry
theorem dX4_putName_35 : decode cX4_putName 35 = .ok (.aload_n 0, 1) := sorry
theorem dX4_putName_36 : decode cX4_putName 36 = .ok (.aload_n 0, 1) := sorry
theorem dX4_putName_37 : decode cX4_putName 37 = .ok (.getfield 32, 3) := sorry
theorem dX4_putName_40 : decode cX4_putName 40 = .ok (.iload_n 1, 1) := sorry
theorem dX4_putName_41 : decode cX4_putName 41 = .ok (.laload, 1) := sorry
theorem dX4_putName_42 : decode cX4_putName 42 = .ok (.iconst 5, 1) := sorry
theorem dX4_putName_43 : decode cX4_putName 43 = .ok (.iload_n 3, 1) := sorry
theorem dX4_putName_44 : decode cX4_putName 44 = .ok (.imul, 1) := sorry
theorem dX4_putName_45 : decode cX4_putName 45 = .ok (.lshr, 1) := sorry
theorem dX4_putName_46 : decode cX4_putName 46 = .ok (.ldc2_w 313, 3) := sorry
theorem dX4_putName_49 : decode cX4_putName 49 = .ok (.land, 1) := sorry
theorem dX4_putName_50 : decode cX4_putName 50 = .ok (.l2i, 1) := sorry
theorem dX4_putName_51 : decode cX4_putName 51 = .ok (.bipush 96, 2) := sorry
theorem dX4_putName_53 : decode cX4_putName 53 = .ok (.iadd, 1) := sorry
theorem dX4_putName_54 : decode cX4_putName 54 = .ok (.invokevirtual 315, 3) := sorry
theorem dX4_putName_57 : decode cX4_putName 57 = .ok (.iinc 3 (-1), 3) := sorry
theorem dX4_putName_60 : decode cX4_putName 60 = .ok (.goto (-29), 3) := sorry
theorem dX4_putName_63 : decode cX4_putName 63 = .ok (.aload_n 0, 1) := sorry
theorem dX4_putName_64 : decode cX4_putName 64 = .ok (.bipush 32, 2) := sorry
theorem dX4_putName_66 : decode cX4_putName 66 = .ok (.invokevirtual 315, 3) := sorry
theorem dX4_putName_69 : decode cX4_putName 69 = .ok (.return_, 1) := sorry
abbrev cX4_put : ByteArray := prog_16_method_110_code
def yX4_put : MethodName := ⟨RX4, "put", "(I)V"⟩
def dkwX4_put_0 : List UInt8 := [42, 180, 0, 89, 42, 180, 1, 54, 27, 79, 42, 89, 180, 1, 54, 4, 96, 181, 1, 54, 177]
abbrev dktX4_put_0 : List UInt8 := dkwX4_put_0 ++ []
theorem dksX4_put_0 : cX4_put.data.toList.drop 0 = dktX4_put_0 := sorry
theorem dX4_put_0 : decode cX4_put 0 = .ok (.aload_n 0, 1) := sorry
theorem dX4_put_1 : decode cX4_put 1 = .ok (.getfield 89, 3) := sorry
theorem dX4_put_4 : decode cX4_put 4 = .ok (.aload_n 0, 1) := sorry
theorem dX4_put_5 : decode cX4_put 5 = .ok (.getfield 310, 3) := sorry
theorem dX4_put_8 : decode cX4_put 8 = .ok (.iload_n 1, 1) := sorry
theorem dX4_put_9 : decode cX4_put 9 = .ok (.iastore, 1) := sorry
theorem dX4_put_10 : decode cX4_put 10 = .ok (.aload_n 0, 1) := sorry
theorem dX4_put_11 : decode cX4_put 11 = .ok (.dup, 1) := sorry
theorem dX4_put_12 : decode cX4_put 12 = .ok (.getfield 310, 3) := sorry
theorem dX4_put_15 : decode cX4_put 15 = .ok (.iconst 1, 1) := sorry
theorem dX4_put_16 : decode cX4_put 16 = .ok (.iadd, 1) := sorry
theorem dX4_put_17 : decode cX4_put 17 = .ok (.putfield 310, 3) := sorry
theorem dX4_put_20 : decode cX4_put 20 = .ok (.return_, 1) := sorry
abbrev cX4_putMarks : ByteArray := prog_16_method_112_code
def yX4_putMarks : MethodName := ⟨RX4, "putMarks", "(I)V"⟩
def dkwX4_putMarks_2 : List UInt8 := [16, 43, 182, 1, 59, 177]
abbrev dktX4_putMarks_2 : List UInt8 := dkwX4_putMarks_2 ++ []
def dkwX4_putMarks_1 : List UInt8 := [160, 0, 8, 16, 42, 167, 0, 5, 16, 120, 182, 1, 59, 42, 27, 182, 1, 51, 2, 159, 0, 9, 42]
abbrev dktX4_putMarks_1 : List UInt8 := dkwX4_putMarks_1 ++ dktX4_putMarks_2
def dkwX4_putMarks_0 : List UInt8 := [42, 180, 0, 7, 16, 125, 27, 96, 46, 153, 0, 27, 42, 42, 180, 0, 7, 16, 125, 27, 96, 46, 4]
abbrev dktX4_putMarks_0 : List UInt8 := dkwX4_putMarks_0 ++ dktX4_putMarks_1
theorem dksX4_putMarks_0 : cX4_putMarks.data.toList.drop 0 = dktX4_putMarks_0 := sorry
theorem dksX4_putMarks_1 : cX4_putMarks.data.toList.drop 23 = dktX4_putMarks_1 := sorry
theorem dksX4_putMarks_2 : cX4_putMarks.data.toList.drop 46 = dktX4_putMarks_2 := sorry
theorem dX4_putMarks_0 : decode cX4_putMarks 0 = .ok (.aload_n 0, 1) := sorry
theorem dX4_putMarks_1 : decode cX4_putMarks 1 = .ok (.getfield 7, 3) := sorry
theorem dX4_putMarks_4 : decode cX4_putMarks 4 = .ok (.bipush 125, 2) := sorry
theorem dX4_putMarks_6 : decode cX4_putMarks 6 = .ok (.iload_n 1, 1) := sorry
theorem dX4_putMarks_7 : decode cX4_putMarks 7 = .ok (.iadd, 1) := sorry
theorem dX4_putMarks_8 : decode cX4_putMarks 8 = .ok (.iaload, 1) := sorry
theorem dX4_putMarks_9 : decode cX4_putMarks 9 = .ok (.ifCond .eq 27, 3) := sorry
theorem dX4_putMarks_12 : decode cX4_putMarks 12 = .ok (.aload_n 0, 1) := sorry
theorem dX4_putMarks_13 : decode cX4_putMarks 13 = .ok (.aload_n 0, 1) := sorry
theorem dX4_putMarks_14 : decode cX4_putMarks 14 = .ok (.getfield 7, 3) := sorry
theorem dX4_putMarks_17 : decode cX4_putMarks 17 = .ok (.bipush 125, 2) := sorry
theorem dX4_putMarks_19 : decode cX4_putMarks 19 = .ok (.iload_n 1, 1) := sorry
theorem dX4_putMarks_20 : decode cX4_putMarks 20 = .ok (.iadd, 1) := sorry
theorem dX4_putMarks_21 : decode cX4_putMarks 21 = .ok (.iaload, 1) := sorry
theorem dX4_putMarks_22 : decode cX4_putMarks 22 = .ok (.iconst 1, 1) := sorry
theorem dX4_putMarks_23 : decode cX4_putMarks 23 = .ok (.if_icmp .ne 8, 3) := sorry
theorem dX4_putMarks_26 : decode cX4_putMarks 26 = .ok (.bipush 42, 2) := sorry
theorem dX4_putMarks_28 : decode cX4_putMarks 28 = .ok (.goto 5, 3) := sorry
theorem dX4_putMarks_31 : decode cX4_putMarks 31 = .ok (.bipush 120, 2) := sorry
theorem dX4_putMarks_33 : decode cX4_putMarks 33 = .ok (.invokevirtual 315, 3) := sorry
theorem dX4_putMarks_36 : decode cX4_putMarks 36 = .ok (.aload_n 0, 1) := sorry
theorem dX4_putMarks_37 : decode cX4_putMarks 37 = .ok (.iload_n 1, 1) := sorry
theorem dX4_putMarks_38 : decode cX4_putMarks 38 = .ok (.invokevirtual 307, 3) := sorry
theorem dX4_putMarks_41 : decode cX4_putMarks 41 = .ok (.iconst (-1), 1) := sorry
theorem dX4_putMarks_42 : decode cX4_putMarks 42 = .ok (.if_icmp .eq 9, 3) := sorry
theorem dX4_putMarks_45 : decode cX4_putMarks 45 = .ok (.aload_n 0, 1) := sorry
theorem dX4_putMarks_46 : decode cX4_putMarks 46 = .ok (.bipush 43, 2) := sorry
theorem dX4_putMarks_48 : decode cX4_putMarks 48 = .ok (.invokevirtual 315, 3) := sorry
theorem dX4_putMarks_51 : decode cX4_putMarks 51 = .ok (.return_, 1) := sorry
abbrev cX4_formatBatch : ByteArray := prog_16_method_114_code
def yX4_formatBatch : MethodName := ⟨RX4, "formatBatch", "(I)I"⟩
def dkwX4_formatBatch_3 : List UInt8 := [28, 184, 1, 9, 182, 1, 65, 132, 2, 1, 167, 255, 212, 42, 180, 1, 54, 172]
abbrev dktX4_formatBatch_3 : List UInt8 := dkwX4_formatBatch_3 ++ []
def dkwX4_formatBatch_2 : List UInt8 := [42, 180, 0, 7, 16, 125, 27, 28, 184, 1, 9, 96, 46, 154, 0, 9, 42, 16, 46, 182, 1, 59, 42, 27]
abbrev dktX4_formatBatch_2 : List UInt8 := dkwX4_formatBatch_2 ++ dktX4_formatBatch_3
def dkwX4_formatBatch_1 : List UInt8 := [3, 172, 42, 3, 181, 1, 54, 42, 27, 182, 1, 62, 3, 61, 28, 42, 180, 0, 39, 27, 46, 162, 0, 40]
abbrev dktX4_formatBatch_1 : List UInt8 := dkwX4_formatBatch_1 ++ dktX4_formatBatch_2
def dkwX4_formatBatch_0 : List UInt8 := [42, 42, 27, 182, 1, 2, 153, 0, 7, 3, 167, 0, 4, 4, 181, 0, 92, 42, 180, 0, 92, 158, 0, 5]
abbrev dktX4_formatBatch_0 : List UInt8 := dkwX4_formatBatch_0 ++ dktX4_formatBatch_1
theorem dksX4_formatBatch_0 : cX4_formatBatch.data.toList.drop 0 = dktX4_formatBatch_0 := sorry
theorem dksX4_formatBatch_1 : cX4_formatBatch.data.toList.drop 24 = dktX4_formatBatch_1 := sorry
theorem dksX4_formatBatch_2 : cX4_formatBatch.data.toList.drop 48 = dktX4_formatBatch_2 := sorry
theorem dksX4_formatBatch_3 : cX4_formatBatch.data.toList.drop 72 = dktX4_formatBatch_3 := sorry
theorem dX4_formatBatch_0 : decode cX4_formatBatch 0 = .ok (.aload_n 0, 1) := sorry
theorem dX4_formatBatch_1 : decode cX4_formatBatch 1 = .ok (.aload_n 0, 1) := sorry
theorem dX4_formatBatch_2 : decode cX4_formatBatch 2 = .ok (.iload_n 1, 1) := sorry
theorem dX4_formatBatch_3 : decode cX4_formatBatch 3 = .ok (.invokevirtual 258, 3) := sorry
theorem dX4_formatBatch_6 : decode cX4_formatBatch 6 = .ok (.ifCond .eq 7, 3) := sorry
theorem dX4_formatBatch_9 : decode cX4_formatBatch 9 = .ok (.iconst 0, 1) := sorry
theorem dX4_formatBatch_10 : decode cX4_formatBatch 10 = .ok (.goto 4, 3) := sorry
theorem dX4_formatBatch_13 : decode cX4_formatBatch 13 = .ok (.iconst 1, 1) := sorry
theorem dX4_formatBatch_14 : decode cX4_formatBatch 14 = .ok (.putfield 92, 3) := sorry
theorem dX4_formatBatch_17 : decode cX4_formatBatch 17 = .ok (.aload_n 0, 1) := sorry
theorem dX4_formatBatch_18 : decode cX4_formatBatch 18 = .ok (.getfield 92, 3) := sorry
theorem dX4_formatBatch_21 : decode cX4_formatBatch 21 = .ok (.ifCond .le 5, 3) := sorry
theorem dX4_formatBatch_24 : decode cX4_formatBatch 24 = .ok (.iconst 0, 1) := sorry
theorem dX4_formatBatch_25 : decode cX4_formatBatch 25 = .ok (.ireturn, 1) := sorry
theorem dX4_formatBatch_26 : decode cX4_formatBatch 26 = .ok (.aload_n 0, 1) := sorry
theorem dX4_formatBatch_27 : decode cX4_formatBatch 27 = .ok (.iconst 0, 1) := sorry
theorem dX4_formatBatch_28 : decode cX4_formatBatch 28 = .ok (.putfield 310, 3) := sorry
theorem dX4_formatBatch_31 : decode cX4_formatBatch 31 = .ok (.aload_n 0, 1) := sorry
theorem dX4_formatBatch_32 : decode cX4_formatBatch 32 = .ok (.iload_n 1, 1) := sorry
theorem dX4_formatBatch_33 : decode cX4_formatBatch 33 = .ok (.invokevirtual 318, 3) := sorry
theorem dX4_formatBatch_36 : decode cX4_formatBatch 36 = .ok (.iconst 0, 1) := sorry
theorem dX4_formatBatch_37 : decode cX4_formatBatch 37 = .ok (.istore_n 2, 1) := sorry
theorem dX4_formatBatch_38 : decode cX4_formatBatch 38 = .ok (.iload_n 2, 1) := sorry
theorem dX4_formatBatch_39 : decode cX4_formatBatch 39 = .ok (.aload_n 0, 1) := sorry
theorem dX4_formatBatch_40 : decode cX4_formatBatch 40 = .ok (.getfield 39, 3) := sorry
theorem dX4_formatBatch_43 : decode cX4_formatBatch 43 = .ok (.iload_n 1, 1) := sorry
theorem dX4_formatBatch_44 : decode cX4_formatBatch 44 = .ok (.iaload, 1) := sorry
theorem dX4_formatBatch_45 : decode cX4_formatBatch 45 = .ok (.if_icmp .ge 40, 3) := sorry
theorem dX4_formatBatch_48 : decode cX4_formatBatch 48 = .ok (.aload_n 0, 1) := sorry
theorem dX4_formatBatch_49 : decode cX4_formatBatch 49 = .ok (.getfield 7, 3) := sorry
theorem dX4_formatBatch_52 : decode cX4_formatBatch 52 = .ok (.bipush 125, 2) := sorry
theorem dX4_formatBatch_54 : decode cX4_formatBatch 54 = .ok (.iload_n 1, 1) := sorry
theorem dX4_formatBatch_55 : decode cX4_formatBatch 55 = .ok (.iload_n 2, 1) := sorry
theorem dX4_formatBatch_56 : decode cX4_formatBatch 56 = .ok (.invokestatic 265, 3) := sorry
theorem dX4_formatBatch_59 : decode cX4_formatBatch 59 = .ok (.iadd, 1) := sorry
theorem dX4_formatBatch_60 : decode cX4_formatBatch 60 = .ok (.iaload, 1) := sorry
theorem dX4_formatBatch_61 : decode cX4_formatBatch 61 = .ok (.ifCond .ne 9, 3) := sorry
theorem dX4_formatBatch_64 : decode cX4_formatBatch 64 = .ok (.aload_n 0, 1) := sorry
theorem dX4_formatBatch_65 : decode cX4_formatBatch 65 = .ok (.bipush 46, 2) := sorry
theorem dX4_formatBatch_67 : decode cX4_formatBatch 67 = .ok (.invokevirtual 315, 3) := sorry
theorem dX4_formatBatch_70 : decode cX4_formatBatch 70 = .ok (.aload_n 0, 1) := sorry
theorem dX4_formatBatch_71 : decode cX4_formatBatch 71 = .ok (.iload_n 1, 1) := sorry
theorem dX4_formatBatch_72 : decode cX4_formatBatch 72 = .ok (.iload_n 2, 1) := sorry
theorem dX4_formatBatch_73 : decode cX4_formatBatch 73 = .ok (.invokestatic 265, 3) := sorry
theorem dX4_formatBatch_76 : decode cX4_formatBatch 76 = .ok (.invokevirtual 321, 3) := sorry
theorem dX4_formatBatch_79 : decode cX4_formatBatch 79 = .ok (.iinc 2 1, 3) := sorry
theorem dX4_formatBatch_82 : decode cX4_formatBatch 82 = .ok (.goto (-44), 3) := sorry
theorem dX4_formatBatch_85 : decode cX4_formatBatch 85 = .ok (.aload_n 0, 1) := sorry
theorem dX4_formatBatch_86 : decode cX4_formatBatch 86 = .ok (.getfield 310, 3) := sorry
theorem dX4_formatBatch_89 : decode cX4_formatBatch 89 = .ok (.ireturn, 1) := sorry
abbrev cX4_formattedByte : ByteArray := prog_16_method_115_code
def yX4_formattedByte : MethodName := ⟨RX4, "formattedByte", "(I)I"⟩
def dkwX4_formattedByte_1 : List UInt8 := [46, 167, 0, 4, 2, 172]
abbrev dktX4_formattedByte_1 : List UInt8 := dkwX4_formattedByte_1 ++ []
def dkwX4_formattedByte_0 : List UInt8 := [42, 3, 181, 0, 92, 27, 3, 42, 180, 1, 54, 4, 100, 184, 0, 115, 153, 0, 12, 42, 180, 0, 89, 27]
abbrev dktX4_formattedByte_0 : List UInt8 := dkwX4_formattedByte_0 ++ dktX4_formattedByte_1
theorem dksX4_formattedByte_0 : cX4_formattedByte.data.toList.drop 0 = dktX4_formattedByte_0 := sorry
theorem dksX4_formattedByte_1 : cX4_formattedByte.data.toList.drop 24 = dktX4_formattedByte_1 := sorry
theorem dX4_formattedByte_0 : decode cX4_formattedByte 0 = .ok (.aload_n 0, 1) := sorry
theorem dX4_formattedByte_1 : decode cX4_formattedByte 1 = .ok (.iconst 0, 1) := sorry
theorem dX4_formattedByte_2 : decode cX4_formattedByte 2 = .ok (.putfield 92, 3) := sorry
theorem dX4_formattedByte_5 : decode cX4_formattedByte 5 = .ok (.iload_n 1, 1) := sorry
theorem dX4_formattedByte_6 : decode cX4_formattedByte 6 = .ok (.iconst 0, 1) := sorry
theorem dX4_formattedByte_7 : decode cX4_formattedByte 7 = .ok (.aload_n 0, 1) := sorry
theorem dX4_formattedByte_8 : decode cX4_formattedByte 8 = .ok (.getfield 310, 3) := sorry
theorem dX4_formattedByte_11 : decode cX4_formattedByte 11 = .ok (.iconst 1, 1) := sorry
theorem dX4_formattedByte_12 : decode cX4_formattedByte 12 = .ok (.isub, 1) := sorry
theorem dX4_formattedByte_13 : decode cX4_formattedByte 13 = .ok (.invokestatic 115, 3) := sorry
theorem dX4_formattedByte_16 : decode cX4_formattedByte 16 = .ok (.ifCond .eq 12, 3) := sorry
theorem dX4_formattedByte_19 : decode cX4_formattedByte 19 = .ok (.aload_n 0, 1) := sorry
theorem dX4_formattedByte_20 : decode cX4_formattedByte 20 = .ok (.getfield 89, 3) := sorry
theorem dX4_formattedByte_23 : decode cX4_formattedByte 23 = .ok (.iload_n 1, 1) := sorry
theorem dX4_formattedByte_24 : decode cX4_formattedByte 24 = .ok (.iaload, 1) := sorry
theorem dX4_formattedByte_25 : decode cX4_formattedByte 25 = .ok (.goto 4, 3) := sorry
theorem dX4_formattedByte_28 : decode cX4_formattedByte 28 = .ok (.iconst (-1), 1) := sorry
theorem dX4_formattedByte_29 : decode cX4_formattedByte 29 = .ok (.ireturn, 1) := sorry
theorem q107 : (Jvm.Cond.initialized "LabelDriverModel") ∈ lw_all := sorry
theorem q1299 : (Jvm.Cond.selects "LabelDriverModel" ({ cls := "java/lang/Object", name := "getClass", desc := "()Ljava/lang/Class;" } : Jvm.MethodName) ({ cls := "java/lang/Object", name := "getClass", desc := "()Ljava/lang/Class;" } : Jvm.MethodName)) ∈ lw_all := sorry
theorem q2025 : (Jvm.Cond.instantiable "LabelDriverModel" (36 : Nat)) ∈ lw_all := sorry
theorem q2027 : (Jvm.Cond.instanceMethod ({ cls := "LabelDriverModel", name := "<init>", desc := "()V" } : Jvm.MethodName)) ∈ lw_all := sorry
theorem q2028 : (Jvm.Cond.code ({ cls := "LabelDriverModel", name := "<init>", desc := "()V" } : Jvm.MethodName) prog_16_method_1_code (1 : Nat) (Option.none : Option Jvm.ClassFile.FieldType)) ∈ lw_all := sorry
theorem q2029 : (Jvm.Cond.methodLink "LabelDriverModel" (1 : Nat) ({ cls := "java/lang/Object", name := "<init>", desc := "()V" } : Jvm.MethodName)) ∈ lw_all := sorry
theorem q2030 : (Jvm.Cond.fieldLink "LabelDriverModel" (92 : Nat) "LabelDriverModel" "thrown" "I") ∈ lw_all := sorry
theorem q2031 : (Jvm.Cond.fieldLink "LabelDriverModel" (7 : Nat) "LabelDriverModel" "s" "[I") ∈ lw_all := sorry
theorem q2032 : (Jvm.Cond.fieldLink "LabelDriverModel" (13 : Nat) "LabelDriverModel" "history" "[I") ∈ lw_all := sorry
theorem q2033 : (Jvm.Cond.fieldLink "LabelDriverModel" (16 : Nat) "LabelDriverModel" "aside" "[I") ∈ lw_all := sorry
theorem q2034 : (Jvm.Cond.fieldLink "LabelDriverModel" (195 : Nat) "LabelDriverModel" "recorded" "I") ∈ lw_all := sorry
theorem q2035 : (Jvm.Cond.fieldLink "LabelDriverModel" (19 : Nat) "LabelDriverModel" "sensor" "I") ∈ lw_all := sorry
theorem q2036 : (Jvm.Cond.fieldLink "LabelDriverModel" (23 : Nat) "LabelDriverModel" "edge" "I") ∈ lw_all := sorry
theorem q2037 : (Jvm.Cond.fieldLink "LabelDriverModel" (26 : Nat) "LabelDriverModel" "tolerance" "I") ∈ lw_all := sorry
theorem q2038 : (Jvm.Cond.fieldLink "LabelDriverModel" (189 : Nat) "LabelDriverModel" "top" "I") ∈ lw_all := sorry
theorem q2039 : (Jvm.Cond.fieldLink "LabelDriverModel" (29 : Nat) "LabelDriverModel" "height" "I") ∈ lw_all := sorry
theorem q2040 : (Jvm.Cond.fieldLink "LabelDriverModel" (192 : Nat) "LabelDriverModel" "batches" "I") ∈ lw_all := sorry
theorem q2041 : (Jvm.Cond.fieldLink "LabelDriverModel" (32 : Nat) "LabelDriverModel" "name" "[J") ∈ lw_all := sorry
theorem q2042 : (Jvm.Cond.fieldLink "LabelDriverModel" (36 : Nat) "LabelDriverModel" "first" "[I") ∈ lw_all := sorry
theorem q2043 : (Jvm.Cond.fieldLink "LabelDriverModel" (39 : Nat) "LabelDriverModel" "count" "[I") ∈ lw_all := sorry
theorem q2044 : (Jvm.Cond.fieldLink "LabelDriverModel" (42 : Nat) "LabelDriverModel" "step" "[I") ∈ lw_all := sorry
theorem q2045 : (Jvm.Cond.fieldLink "LabelDriverModel" (45 : Nat) "LabelDriverModel" "width" "[I") ∈ lw_all := sorry
theorem q2046 : (Jvm.Cond.fieldLink "LabelDriverModel" (48 : Nat) "LabelDriverModel" "checks" "[Z") ∈ lw_all := sorry
theorem q2047 : (Jvm.Cond.fieldLink "LabelDriverModel" (52 : Nat) "LabelDriverModel" "again" "[Z") ∈ lw_all := sorry
theorem q2048 : (Jvm.Cond.fieldLink "LabelDriverModel" (55 : Nat) "LabelDriverModel" "begin" "[I") ∈ lw_all := sorry
theorem q2049 : (Jvm.Cond.fieldLink "LabelDriverModel" (58 : Nat) "LabelDriverModel" "buffer" "[B") ∈ lw_all := sorry
theorem q2050 : (Jvm.Cond.fieldLink "LabelDriverModel" (95 : Nat) "LabelDriverModel" "buffered" "I") ∈ lw_all := sorry
theorem q2051 : (Jvm.Cond.fieldLink "LabelDriverModel" (98 : Nat) "LabelDriverModel" "length" "I") ∈ lw_all := sorry
theorem q2052 : (Jvm.Cond.fieldLink "LabelDriverModel" (101 : Nat) "LabelDriverModel" "at" "I") ∈ lw_all := sorry
theorem q2053 : (Jvm.Cond.fieldLink "LabelDriverModel" (62 : Nat) "LabelDriverModel" "error" "I") ∈ lw_all := sorry
theorem q2054 : (Jvm.Cond.fieldLink "LabelDriverModel" (108 : Nat) "LabelDriverModel" "kind" "I") ∈ lw_all := sorry
theorem q2055 : (Jvm.Cond.fieldLink "LabelDriverModel" (65 : Nat) "LabelDriverModel" "press" "[I") ∈ lw_all := sorry
theorem q2056 : (Jvm.Cond.fieldLink "LabelDriverModel" (153 : Nat) "LabelDriverModel" "newBatches" "I") ∈ lw_all := sorry
theorem q2057 : (Jvm.Cond.fieldLink "LabelDriverModel" (68 : Nat) "LabelDriverModel" "newName" "[J") ∈ lw_all := sorry
theorem q2058 : (Jvm.Cond.fieldLink "LabelDriverModel" (71 : Nat) "LabelDriverModel" "newFirst" "[I") ∈ lw_all := sorry
theorem q2059 : (Jvm.Cond.fieldLink "LabelDriverModel" (74 : Nat) "LabelDriverModel" "newCount" "[I") ∈ lw_all := sorry
theorem q2060 : (Jvm.Cond.fieldLink "LabelDriverModel" (77 : Nat) "LabelDriverModel" "newStep" "[I") ∈ lw_all := sorry
theorem q2061 : (Jvm.Cond.fieldLink "LabelDriverModel" (80 : Nat) "LabelDriverModel" "newWidth" "[I") ∈ lw_all := sorry
theorem q2062 : (Jvm.Cond.fieldLink "LabelDriverModel" (83 : Nat) "LabelDriverModel" "newChecks" "[Z") ∈ lw_all := sorry
theorem q2063 : (Jvm.Cond.fieldLink "LabelDriverModel" (86 : Nat) "LabelDriverModel" "newAgain" "[Z") ∈ lw_all := sorry
theorem q2064 : (Jvm.Cond.fieldLink "LabelDriverModel" (89 : Nat) "LabelDriverModel" "formatted" "[I") ∈ lw_all := sorry
theorem q2065 : (Jvm.Cond.fieldLink "LabelDriverModel" (310 : Nat) "LabelDriverModel" "formattedLength" "I") ∈ lw_all := sorry
theorem q2066 : (Jvm.Cond.lays "LabelDriverModel" "LabelDriverModel" "thrown" "I") ∈ lw_all := sorry
theorem q2067 : (Jvm.Cond.soleField "LabelDriverModel" "thrown") ∈ lw_all := sorry
theorem q2068 : (Jvm.Cond.laysFinal "LabelDriverModel" "LabelDriverModel" "s" "[I") ∈ lw_all := sorry
theorem q2069 : (Jvm.Cond.soleField "LabelDriverModel" "s") ∈ lw_all := sorry
theorem q2070 : (Jvm.Cond.laysFinal "LabelDriverModel" "LabelDriverModel" "history" "[I") ∈ lw_all := sorry
theorem q2071 : (Jvm.Cond.soleField "LabelDriverModel" "history") ∈ lw_all := sorry
theorem q2072 : (Jvm.Cond.laysFinal "LabelDriverModel" "LabelDriverModel" "aside" "[I") ∈ lw_all := sorry
theorem q2073 : (Jvm.Cond.soleField "LabelDriverModel" "aside") ∈ lw_all := sorry
theorem q2074 : (Jvm.Cond.lays "LabelDriverModel" "LabelDriverModel" "recorded" "I") ∈ lw_all := sorry
theorem q2075 : (Jvm.Cond.soleField "LabelDriverModel" "recorded") ∈ lw_all := sorry
theorem q2076 : (Jvm.Cond.lays "LabelDriverModel" "LabelDriverModel" "sensor" "I") ∈ lw_all := sorry
theorem q2077 : (Jvm.Cond.soleField "LabelDriverModel" "sensor") ∈ lw_all := sorry
theorem q2078 : (Jvm.Cond.lays "LabelDriverModel" "LabelDriverModel" "edge" "I") ∈ lw_all := sorry
theorem q2079 : (Jvm.Cond.soleField "LabelDriverModel" "edge") ∈ lw_all := sorry
theorem q2080 : (Jvm.Cond.lays "LabelDriverModel" "LabelDriverModel" "tolerance" "I") ∈ lw_all := sorry
theorem q2081 : (Jvm.Cond.soleField "LabelDriverModel" "tolerance") ∈ lw_all := sorry
theorem q2082 : (Jvm.Cond.lays "LabelDriverModel" "LabelDriverModel" "top" "I") ∈ lw_all := sorry
theorem q2083 : (Jvm.Cond.soleField "LabelDriverModel" "top") ∈ lw_all := sorry
theorem q2084 : (Jvm.Cond.lays "LabelDriverModel" "LabelDriverModel" "height" "I") ∈ lw_all := sorry
theorem q2085 : (Jvm.Cond.soleField "LabelDriverModel" "height") ∈ lw_all := sorry
theorem q2086 : (Jvm.Cond.lays "LabelDriverModel" "LabelDriverModel" "batches" "I") ∈ lw_all := sorry
theorem q2087 : (Jvm.Cond.soleField "LabelDriverModel" "batches") ∈ lw_all := sorry
theorem q2088 : (Jvm.Cond.laysFinal "LabelDriverModel" "LabelDriverModel" "name" "[J") ∈ lw_all := sorry
theorem q2089 : (Jvm.Cond.soleField "LabelDriverModel" "name") ∈ lw_all := sorry
theorem q2090 : (Jvm.Cond.laysFinal "LabelDriverModel" "LabelDriverModel" "first" "[I") ∈ lw_all := sorry
theorem q2091 : (Jvm.Cond.soleField "LabelDriverModel" "first") ∈ lw_all := sorry
theorem q2092 : (Jvm.Cond.laysFinal "LabelDriverModel" "LabelDriverModel" "count" "[I") ∈ lw_all := sorry
theorem q2093 : (Jvm.Cond.soleField "LabelDriverModel" "count") ∈ lw_all := sorry
theorem q2094 : (Jvm.Cond.laysFinal "LabelDriverModel" "LabelDriverModel" "step" "[I") ∈ lw_all := sorry
theorem q2095 : (Jvm.Cond.soleField "LabelDriverModel" "step") ∈ lw_all := sorry
theorem q2096 : (Jvm.Cond.laysFinal "LabelDriverModel" "LabelDriverModel" "width" "[I") ∈ lw_all := sorry
theorem q2097 : (Jvm.Cond.soleField "LabelDriverModel" "width") ∈ lw_all := sorry
theorem q2098 : (Jvm.Cond.laysFinal "LabelDriverModel" "LabelDriverModel" "checks" "[Z") ∈ lw_all := sorry
theorem q2099 : (Jvm.Cond.soleField "LabelDriverModel" "checks") ∈ lw_all := sorry
theorem q2100 : (Jvm.Cond.laysFinal "LabelDriverModel" "LabelDriverModel" "again" "[Z") ∈ lw_all := sorry
theorem q2101 : (Jvm.Cond.soleField "LabelDriverModel" "again") ∈ lw_all := sorry
theorem q2102 : (Jvm.Cond.laysFinal "LabelDriverModel" "LabelDriverModel" "begin" "[I") ∈ lw_all := sorry
theorem q2103 : (Jvm.Cond.soleField "LabelDriverModel" "begin") ∈ lw_all := sorry
theorem q2104 : (Jvm.Cond.laysFinal "LabelDriverModel" "LabelDriverModel" "buffer" "[B") ∈ lw_all := sorry
theorem q2105 : (Jvm.Cond.soleField "LabelDriverModel" "buffer") ∈ lw_all := sorry
theorem q2106 : (Jvm.Cond.lays "LabelDriverModel" "LabelDriverModel" "buffered" "I") ∈ lw_all := sorry
theorem q2107 : (Jvm.Cond.soleField "LabelDriverModel" "buffered") ∈ lw_all := sorry
theorem q2108 : (Jvm.Cond.lays "LabelDriverModel" "LabelDriverModel" "length" "I") ∈ lw_all := sorry
theorem q2109 : (Jvm.Cond.soleField "LabelDriverModel" "length") ∈ lw_all := sorry
theorem q2110 : (Jvm.Cond.lays "LabelDriverModel" "LabelDriverModel" "at" "I") ∈ lw_all := sorry
theorem q2111 : (Jvm.Cond.soleField "LabelDriverModel" "at") ∈ lw_all := sorry
theorem q2112 : (Jvm.Cond.lays "LabelDriverModel" "LabelDriverModel" "error" "I") ∈ lw_all := sorry
theorem q2113 : (Jvm.Cond.soleField "LabelDriverModel" "error") ∈ lw_all := sorry
theorem q2114 : (Jvm.Cond.lays "LabelDriverModel" "LabelDriverModel" "kind" "I") ∈ lw_all := sorry
theorem q2115 : (Jvm.Cond.soleField "LabelDriverModel" "kind") ∈ lw_all := sorry
theorem q2116 : (Jvm.Cond.laysFinal "LabelDriverModel" "LabelDriverModel" "press" "[I") ∈ lw_all := sorry
theorem q2117 : (Jvm.Cond.soleField "LabelDriverModel" "press") ∈ lw_all := sorry
theorem q2118 : (Jvm.Cond.lays "LabelDriverModel" "LabelDriverModel" "newBatches" "I") ∈ lw_all := sorry
theorem q2119 : (Jvm.Cond.soleField "LabelDriverModel" "newBatches") ∈ lw_all := sorry
theorem q2120 : (Jvm.Cond.laysFinal "LabelDriverModel" "LabelDriverModel" "newName" "[J") ∈ lw_all := sorry
theorem q2121 : (Jvm.Cond.soleField "LabelDriverModel" "newName") ∈ lw_all := sorry
theorem q2122 : (Jvm.Cond.laysFinal "LabelDriverModel" "LabelDriverModel" "newFirst" "[I") ∈ lw_all := sorry
theorem q2123 : (Jvm.Cond.soleField "LabelDriverModel" "newFirst") ∈ lw_all := sorry
theorem q2124 : (Jvm.Cond.laysFinal "LabelDriverModel" "LabelDriverModel" "newCount" "[I") ∈ lw_all := sorry
theorem q2125 : (Jvm.Cond.soleField "LabelDriverModel" "newCount") ∈ lw_all := sorry
theorem q2126 : (Jvm.Cond.laysFinal "LabelDriverModel" "LabelDriverModel" "newStep" "[I") ∈ lw_all := sorry
theorem q2127 : (Jvm.Cond.soleField "LabelDriverModel" "newStep") ∈ lw_all := sorry
theorem q2128 : (Jvm.Cond.laysFinal "LabelDriverModel" "LabelDriverModel" "newWidth" "[I") ∈ lw_all := sorry
theorem q2129 : (Jvm.Cond.soleField "LabelDriverModel" "newWidth") ∈ lw_all := sorry
theorem q2130 : (Jvm.Cond.laysFinal "LabelDriverModel" "LabelDriverModel" "newChecks" "[Z") ∈ lw_all := sorry
theorem q2131 : (Jvm.Cond.soleField "LabelDriverModel" "newChecks") ∈ lw_all := sorry
theorem q2132 : (Jvm.Cond.laysFinal "LabelDriverModel" "LabelDriverModel" "newAgain" "[Z") ∈ lw_all := sorry
theorem q2133 : (Jvm.Cond.soleField "LabelDriverModel" "newAgain") ∈ lw_all := sorry
theorem q2134 : (Jvm.Cond.laysFinal "LabelDriverModel" "LabelDriverModel" "formatted" "[I") ∈ lw_all := sorry
theorem q2135 : (Jvm.Cond.soleField "LabelDriverModel" "formatted") ∈ lw_all := sorry
theorem q2136 : (Jvm.Cond.lays "LabelDriverModel" "LabelDriverModel" "formattedLength" "I") ∈ lw_all := sorry
theorem q2137 : (Jvm.Cond.soleField "LabelDriverModel" "formattedLength") ∈ lw_all := sorry
theorem q2138 : (Jvm.Cond.superclass "LabelDriverModel" "java/lang/Object") ∈ lw_all := sorry
theorem q2142 : (Jvm.Cond.instanceMethod ({ cls := "LabelDriverModel", name := "thrown", desc := "()I" } : Jvm.MethodName)) ∈ lw_all := sorry
theorem q2143 : (Jvm.Cond.selects "LabelDriverModel" ({ cls := "LabelDriverModel", name := "thrown", desc := "()I" } : Jvm.MethodName) ({ cls := "LabelDriverModel", name := "thrown", desc := "()I" } : Jvm.MethodName)) ∈ lw_all := sorry
theorem q2144 : (Jvm.Cond.code ({ cls := "LabelDriverModel", name := "thrown", desc := "()I" } : Jvm.MethodName) prog_16_method_2_code (1 : Nat) (Option.some Jvm.ClassFile.FieldType.int)) ∈ lw_all := sorry
theorem q2146 : (Jvm.Cond.instanceMethod ({ cls := "LabelDriverModel", name := "append", desc := "(IIIII)I" } : Jvm.MethodName)) ∈ lw_all := sorry
theorem q2147 : (Jvm.Cond.selects "LabelDriverModel" ({ cls := "LabelDriverModel", name := "append", desc := "(IIIII)I" } : Jvm.MethodName) ({ cls := "LabelDriverModel", name := "append", desc := "(IIIII)I" } : Jvm.MethodName)) ∈ lw_all := sorry
theorem q2148 : (Jvm.Cond.code ({ cls := "LabelDriverModel", name := "append", desc := "(IIIII)I" } : Jvm.MethodName) prog_16_method_6_code (8 : Nat) (Option.some Jvm.ClassFile.FieldType.int)) ∈ lw_all := sorry
theorem q2150 : (Jvm.Cond.instanceMethod ({ cls := "LabelDriverModel", name := "truncate", desc := "(I)Z" } : Jvm.MethodName)) ∈ lw_all := sorry
theorem q2151 : (Jvm.Cond.selects "LabelDriverModel" ({ cls := "LabelDriverModel", name := "truncate", desc := "(I)Z" } : Jvm.MethodName) ({ cls := "LabelDriverModel", name := "truncate", desc := "(I)Z" } : Jvm.MethodName)) ∈ lw_all := sorry
theorem q2152 : (Jvm.Cond.code ({ cls := "LabelDriverModel", name := "truncate", desc := "(I)Z" } : Jvm.MethodName) prog_16_method_7_code (2 : Nat) (Option.some Jvm.ClassFile.FieldType.boolean)) ∈ lw_all := sorry
theorem q2154 : (Jvm.Cond.instanceMethod ({ cls := "LabelDriverModel", name := "load", desc := "()I" } : Jvm.MethodName)) ∈ lw_all := sorry
theorem q2155 : (Jvm.Cond.selects "LabelDriverModel" ({ cls := "LabelDriverModel", name := "load", desc := "()I" } : Jvm.MethodName) ({ cls := "LabelDriverModel", name := "load", desc := "()I" } : Jvm.MethodName)) ∈ lw_all := sorry
theorem q2156 : (Jvm.Cond.code ({ cls := "LabelDriverModel", name := "load", desc := "()I" } : Jvm.MethodName) prog_16_method_21_code (2 : Nat) (Option.some Jvm.ClassFile.FieldType.int)) ∈ lw_all := sorry
theorem q2157 : (Jvm.Cond.methodLink "LabelDriverModel" (186 : Nat) ({ cls := "LabelDriverModel", name := "parse", desc := "()V" } : Jvm.MethodName)) ∈ lw_all := sorry
theorem q2158 : (Jvm.Cond.privateMethod ({ cls := "LabelDriverModel", name := "parse", desc := "()V" } : Jvm.MethodName)) ∈ lw_tbl := sorry
theorem q2159 : (Jvm.Cond.instanceMethod ({ cls := "LabelDriverModel", name := "parse", desc := "()V" } : Jvm.MethodName)) ∈ lw_all := sorry
theorem q2160 : (Jvm.Cond.code ({ cls := "LabelDriverModel", name := "parse", desc := "()V" } : Jvm.MethodName) prog_16_method_20_code (1 : Nat) (Option.none : Option Jvm.ClassFile.FieldType)) ∈ lw_all := sorry
theorem q2161 : (Jvm.Cond.methodLink "LabelDriverModel" (122 : Nat) ({ cls := "LabelDriverModel", name := "failed", desc := "()Z" } : Jvm.MethodName)) ∈ lw_all := sorry
theorem q2162 : (Jvm.Cond.privateMethod ({ cls := "LabelDriverModel", name := "failed", desc := "()Z" } : Jvm.MethodName)) ∈ lw_tbl := sorry
theorem q2163 : (Jvm.Cond.instanceMethod ({ cls := "LabelDriverModel", name := "failed", desc := "()Z" } : Jvm.MethodName)) ∈ lw_all := sorry
theorem q2164 : (Jvm.Cond.code ({ cls := "LabelDriverModel", name := "failed", desc := "()Z" } : Jvm.MethodName) prog_16_method_10_code (1 : Nat) (Option.some Jvm.ClassFile.FieldType.boolean)) ∈ lw_all := sorry
theorem q2165 : (Jvm.Cond.methodLink "LabelDriverModel" (111 : Nat) ({ cls := "LabelDriverModel", name := "peek", desc := "()I" } : Jvm.MethodName)) ∈ lw_all := sorry
theorem q2166 : (Jvm.Cond.privateMethod ({ cls := "LabelDriverModel", name := "peek", desc := "()I" } : Jvm.MethodName)) ∈ lw_tbl := sorry
theorem q2167 : (Jvm.Cond.instanceMethod ({ cls := "LabelDriverModel", name := "peek", desc := "()I" } : Jvm.MethodName)) ∈ lw_all := sorry
theorem q2168 : (Jvm.Cond.code ({ cls := "LabelDriverModel", name := "peek", desc := "()I" } : Jvm.MethodName) prog_16_method_9_code (1 : Nat) (Option.some Jvm.ClassFile.FieldType.int)) ∈ lw_all := sorry
theorem q2169 : (Jvm.Cond.methodLink "LabelDriverModel" (104 : Nat) ({ cls := "LabelDriverModel", name := "byteAt", desc := "(I)I" } : Jvm.MethodName)) ∈ lw_all := sorry
theorem q2170 : (Jvm.Cond.privateMethod ({ cls := "LabelDriverModel", name := "byteAt", desc := "(I)I" } : Jvm.MethodName)) ∈ lw_tbl := sorry
theorem q2171 : (Jvm.Cond.instanceMethod ({ cls := "LabelDriverModel", name := "byteAt", desc := "(I)I" } : Jvm.MethodName)) ∈ lw_all := sorry
theorem q2172 : (Jvm.Cond.code ({ cls := "LabelDriverModel", name := "byteAt", desc := "(I)I" } : Jvm.MethodName) prog_16_method_8_code (2 : Nat) (Option.some Jvm.ClassFile.FieldType.int)) ∈ lw_all := sorry
theorem q2173 : (Jvm.Cond.methodLink "LabelDriverModel" (183 : Nat) ({ cls := "LabelDriverModel", name := "line", desc := "()V" } : Jvm.MethodName)) ∈ lw_all := sorry
theorem q2174 : (Jvm.Cond.privateMethod ({ cls := "LabelDriverModel", name := "line", desc := "()V" } : Jvm.MethodName)) ∈ lw_tbl := sorry
theorem q2175 : (Jvm.Cond.instanceMethod ({ cls := "LabelDriverModel", name := "line", desc := "()V" } : Jvm.MethodName)) ∈ lw_all := sorry
theorem q2176 : (Jvm.Cond.code ({ cls := "LabelDriverModel", name := "line", desc := "()V" } : Jvm.MethodName) prog_16_method_19_code (1 : Nat) (Option.none : Option Jvm.ClassFile.FieldType)) ∈ lw_all := sorry
theorem q2177 : (Jvm.Cond.stringRef "LabelDriverModel" (175 : Nat) "batch") ∈ lw_tbl := sorry
theorem q2178 : (Jvm.Cond.methodLink "LabelDriverModel" (134 : Nat) ({ cls := "LabelDriverModel", name := "isWord", desc := "(Ljava/lang/String;)Z" } : Jvm.MethodName)) ∈ lw_all := sorry
theorem q2179 : (Jvm.Cond.privateMethod ({ cls := "LabelDriverModel", name := "isWord", desc := "(Ljava/lang/String;)Z" } : Jvm.MethodName)) ∈ lw_tbl := sorry
theorem q2180 : (Jvm.Cond.instanceMethod ({ cls := "LabelDriverModel", name := "isWord", desc := "(Ljava/lang/String;)Z" } : Jvm.MethodName)) ∈ lw_all := sorry
theorem q2181 : (Jvm.Cond.code ({ cls := "LabelDriverModel", name := "isWord", desc := "(Ljava/lang/String;)Z" } : Jvm.MethodName) prog_16_method_13_code (5 : Nat) (Option.some Jvm.ClassFile.FieldType.boolean)) ∈ lw_all := sorry
theorem q2182 : (Jvm.Cond.methodLink "LabelDriverModel" (119 : Nat) ({ cls := "LabelDriverModel", name := "wordEnd", desc := "()I" } : Jvm.MethodName)) ∈ lw_all := sorry
theorem q2183 : (Jvm.Cond.privateMethod ({ cls := "LabelDriverModel", name := "wordEnd", desc := "()I" } : Jvm.MethodName)) ∈ lw_tbl := sorry
theorem q2184 : (Jvm.Cond.instanceMethod ({ cls := "LabelDriverModel", name := "wordEnd", desc := "()I" } : Jvm.MethodName)) ∈ lw_all := sorry
theorem q2185 : (Jvm.Cond.code ({ cls := "LabelDriverModel", name := "wordEnd", desc := "()I" } : Jvm.MethodName) prog_16_method_12_code (2 : Nat) (Option.some Jvm.ClassFile.FieldType.int)) ∈ lw_all := sorry
theorem q2186 : (Jvm.Cond.methodLink "LabelDriverModel" (115 : Nat) ({ cls := "LabelDriverModel", name := "inRange", desc := "(III)Z" } : Jvm.MethodName)) ∈ lw_all := sorry
theorem q2187 : (Jvm.Cond.static ({ cls := "LabelDriverModel", name := "inRange", desc := "(III)Z" } : Jvm.MethodName)) ∈ lw_all := sorry
theorem q2188 : (Jvm.Cond.code ({ cls := "LabelDriverModel", name := "inRange", desc := "(III)Z" } : Jvm.MethodName) prog_16_method_3_code (3 : Nat) (Option.some Jvm.ClassFile.FieldType.boolean)) ∈ lw_all := sorry
theorem q2189 : (Jvm.Cond.methodLink "LabelDriverModel" (126 : Nat) ({ cls := "java/lang/String", name := "length", desc := "()I" } : Jvm.MethodName)) ∈ lw_all := sorry
theorem q2190 : (Jvm.Cond.methodLink "LabelDriverModel" (130 : Nat) ({ cls := "java/lang/String", name := "charAt", desc := "(I)C" } : Jvm.MethodName)) ∈ lw_all := sorry
theorem q2201 : (Jvm.Cond.methodLink "LabelDriverModel" (141 : Nat) ({ cls := "LabelDriverModel", name := "fail", desc := "(II)V" } : Jvm.MethodName)) ∈ lw_all := sorry
theorem q2202 : (Jvm.Cond.privateMethod ({ cls := "LabelDriverModel", name := "fail", desc := "(II)V" } : Jvm.MethodName)) ∈ lw_tbl := sorry
theorem q2203 : (Jvm.Cond.instanceMethod ({ cls := "LabelDriverModel", name := "fail", desc := "(II)V" } : Jvm.MethodName)) ∈ lw_all := sorry
theorem q2204 : (Jvm.Cond.code ({ cls := "LabelDriverModel", name := "fail", desc := "(II)V" } : Jvm.MethodName) prog_16_method_11_code (3 : Nat) (Option.none : Option Jvm.ClassFile.FieldType)) ∈ lw_all := sorry
theorem q2205 : (Jvm.Cond.stringRef "LabelDriverModel" (177 : Nat) "press") ∈ lw_tbl := sorry
theorem q2206 : (Jvm.Cond.methodLink "LabelDriverModel" (138 : Nat) ({ cls := "LabelDriverModel", name := "accept", desc := "(Ljava/lang/String;)Z" } : Jvm.MethodName)) ∈ lw_all := sorry
theorem q2207 : (Jvm.Cond.privateMethod ({ cls := "LabelDriverModel", name := "accept", desc := "(Ljava/lang/String;)Z" } : Jvm.MethodName)) ∈ lw_tbl := sorry
theorem q2208 : (Jvm.Cond.instanceMethod ({ cls := "LabelDriverModel", name := "accept", desc := "(Ljava/lang/String;)Z" } : Jvm.MethodName)) ∈ lw_all := sorry
theorem q2209 : (Jvm.Cond.code ({ cls := "LabelDriverModel", name := "accept", desc := "(Ljava/lang/String;)Z" } : Jvm.MethodName) prog_16_method_14_code (3 : Nat) (Option.some Jvm.ClassFile.FieldType.boolean)) ∈ lw_all := sorry
theorem q2210 : (Jvm.Cond.methodLink "LabelDriverModel" (163 : Nat) ({ cls := "LabelDriverModel", name := "digits", desc := "(II)I" } : Jvm.MethodName)) ∈ lw_all := sorry
theorem q2211 : (Jvm.Cond.privateMethod ({ cls := "LabelDriverModel", name := "digits", desc := "(II)I" } : Jvm.MethodName)) ∈ lw_tbl := sorry
theorem q2212 : (Jvm.Cond.instanceMethod ({ cls := "LabelDriverModel", name := "digits", desc := "(II)I" } : Jvm.MethodName)) ∈ lw_all := sorry
theorem q2213 : (Jvm.Cond.code ({ cls := "LabelDriverModel", name := "digits", desc := "(II)I" } : Jvm.MethodName) prog_16_method_16_code (5 : Nat) (Option.some Jvm.ClassFile.FieldType.int)) ∈ lw_all := sorry
theorem q2214 : (Jvm.Cond.stringRef "LabelDriverModel" (178 : Nat) "area") ∈ lw_tbl := sorry
theorem q2215 : (Jvm.Cond.methodLink "LabelDriverModel" (180 : Nat) ({ cls := "LabelDriverModel", name := "batchLine", desc := "()V" } : Jvm.MethodName)) ∈ lw_all := sorry
theorem q2216 : (Jvm.Cond.privateMethod ({ cls := "LabelDriverModel", name := "batchLine", desc := "()V" } : Jvm.MethodName)) ∈ lw_tbl := sorry
theorem q2217 : (Jvm.Cond.instanceMethod ({ cls := "LabelDriverModel", name := "batchLine", desc := "()V" } : Jvm.MethodName)) ∈ lw_all := sorry
theorem q2218 : (Jvm.Cond.code ({ cls := "LabelDriverModel", name := "batchLine", desc := "()V" } : Jvm.MethodName) prog_16_method_18_code (4 : Nat) (Option.none : Option Jvm.ClassFile.FieldType)) ∈ lw_all := sorry
theorem q2219 : (Jvm.Cond.methodLink "LabelDriverModel" (149 : Nat) ({ cls := "LabelDriverModel", name := "packed", desc := "()J" } : Jvm.MethodName)) ∈ lw_all := sorry
theorem q2220 : (Jvm.Cond.privateMethod ({ cls := "LabelDriverModel", name := "packed", desc := "()J" } : Jvm.MethodName)) ∈ lw_tbl := sorry
theorem q2221 : (Jvm.Cond.instanceMethod ({ cls := "LabelDriverModel", name := "packed", desc := "()J" } : Jvm.MethodName)) ∈ lw_all := sorry
theorem q2222 : (Jvm.Cond.code ({ cls := "LabelDriverModel", name := "packed", desc := "()J" } : Jvm.MethodName) prog_16_method_17_code (5 : Nat) (Option.some Jvm.ClassFile.FieldType.long)) ∈ lw_all := sorry
theorem q2223 : (Jvm.Cond.constantLong "LabelDriverModel" (145 : Nat) (32 : Int64)) ∈ lw_all := sorry
theorem q2224 : (Jvm.Cond.constantLong "LabelDriverModel" (147 : Nat) (96 : Int64)) ∈ lw_all := sorry
theorem q2225 : (Jvm.Cond.stringRef "LabelDriverModel" (156 : Nat) "from") ∈ lw_tbl := sorry
theorem q2226 : (Jvm.Cond.methodLink "LabelDriverModel" (158 : Nat) ({ cls := "LabelDriverModel", name := "word", desc := "(Ljava/lang/String;)V" } : Jvm.MethodName)) ∈ lw_all := sorry
theorem q2227 : (Jvm.Cond.privateMethod ({ cls := "LabelDriverModel", name := "word", desc := "(Ljava/lang/String;)V" } : Jvm.MethodName)) ∈ lw_tbl := sorry
theorem q2228 : (Jvm.Cond.instanceMethod ({ cls := "LabelDriverModel", name := "word", desc := "(Ljava/lang/String;)V" } : Jvm.MethodName)) ∈ lw_all := sorry
theorem q2229 : (Jvm.Cond.code ({ cls := "LabelDriverModel", name := "word", desc := "(Ljava/lang/String;)V" } : Jvm.MethodName) prog_16_method_15_code (2 : Nat) (Option.none : Option Jvm.ClassFile.FieldType)) ∈ lw_all := sorry
theorem q2230 : (Jvm.Cond.constant "LabelDriverModel" (162 : Nat) (999999 : Int32)) ∈ lw_all := sorry
theorem q2231 : (Jvm.Cond.stringRef "LabelDriverModel" (167 : Nat) "count") ∈ lw_tbl := sorry
theorem q2232 : (Jvm.Cond.stringRef "LabelDriverModel" (168 : Nat) "step") ∈ lw_tbl := sorry
theorem q2233 : (Jvm.Cond.stringRef "LabelDriverModel" (169 : Nat) "width") ∈ lw_tbl := sorry
theorem q2234 : (Jvm.Cond.stringRef "LabelDriverModel" (170 : Nat) "check") ∈ lw_tbl := sorry
theorem q2235 : (Jvm.Cond.stringRef "LabelDriverModel" (172 : Nat) "again") ∈ lw_tbl := sorry
theorem q2236 : (Jvm.Cond.stringRef "LabelDriverModel" (173 : Nat) "skip") ∈ lw_tbl := sorry
theorem q2238 : (Jvm.Cond.instanceMethod ({ cls := "LabelDriverModel", name := "errorOffset", desc := "()I" } : Jvm.MethodName)) ∈ lw_all := sorry
theorem q2239 : (Jvm.Cond.selects "LabelDriverModel" ({ cls := "LabelDriverModel", name := "errorOffset", desc := "()I" } : Jvm.MethodName) ({ cls := "LabelDriverModel", name := "errorOffset", desc := "()I" } : Jvm.MethodName)) ∈ lw_all := sorry
theorem q2240 : (Jvm.Cond.code ({ cls := "LabelDriverModel", name := "errorOffset", desc := "()I" } : Jvm.MethodName) prog_16_method_22_code (1 : Nat) (Option.some Jvm.ClassFile.FieldType.int)) ∈ lw_all := sorry
theorem q2242 : (Jvm.Cond.instanceMethod ({ cls := "LabelDriverModel", name := "errorKind", desc := "()I" } : Jvm.MethodName)) ∈ lw_all := sorry
theorem q2243 : (Jvm.Cond.selects "LabelDriverModel" ({ cls := "LabelDriverModel", name := "errorKind", desc := "()I" } : Jvm.MethodName) ({ cls := "LabelDriverModel", name := "errorKind", desc := "()I" } : Jvm.MethodName)) ∈ lw_all := sorry
theorem q2244 : (Jvm.Cond.code ({ cls := "LabelDriverModel", name := "errorKind", desc := "()I" } : Jvm.MethodName) prog_16_method_23_code (1 : Nat) (Option.some Jvm.ClassFile.FieldType.int)) ∈ lw_all := sorry
theorem q2246 : (Jvm.Cond.instanceMethod ({ cls := "LabelDriverModel", name := "undo", desc := "()I" } : Jvm.MethodName)) ∈ lw_all := sorry
theorem q2247 : (Jvm.Cond.selects "LabelDriverModel" ({ cls := "LabelDriverModel", name := "undo", desc := "()I" } : Jvm.MethodName) ({ cls := "LabelDriverModel", name := "undo", desc := "()I" } : Jvm.MethodName)) ∈ lw_all := sorry
theorem q2248 : (Jvm.Cond.code ({ cls := "LabelDriverModel", name := "undo", desc := "()I" } : Jvm.MethodName) prog_16_method_25_code (2 : Nat) (Option.some Jvm.ClassFile.FieldType.int)) ∈ lw_all := sorry
theorem q2249 : (Jvm.Cond.methodLink "LabelDriverModel" (198 : Nat) ({ cls := "LabelDriverModel", name := "laysWeb", desc := "()V" } : Jvm.MethodName)) ∈ lw_all := sorry
theorem q2250 : (Jvm.Cond.privateMethod ({ cls := "LabelDriverModel", name := "laysWeb", desc := "()V" } : Jvm.MethodName)) ∈ lw_tbl := sorry
theorem q2251 : (Jvm.Cond.instanceMethod ({ cls := "LabelDriverModel", name := "laysWeb", desc := "()V" } : Jvm.MethodName)) ∈ lw_all := sorry
theorem q2252 : (Jvm.Cond.code ({ cls := "LabelDriverModel", name := "laysWeb", desc := "()V" } : Jvm.MethodName) prog_16_method_28_code (2 : Nat) (Option.none : Option Jvm.ClassFile.FieldType)) ∈ lw_all := sorry
theorem q2253 : (Jvm.Cond.methodLink "LabelDriverModel" (201 : Nat) ({ cls := "LabelDriverModel", name := "labelLong", desc := "(I)I" } : Jvm.MethodName)) ∈ lw_all := sorry
theorem q2254 : (Jvm.Cond.privateMethod ({ cls := "LabelDriverModel", name := "labelLong", desc := "(I)I" } : Jvm.MethodName)) ∈ lw_tbl := sorry
theorem q2255 : (Jvm.Cond.instanceMethod ({ cls := "LabelDriverModel", name := "labelLong", desc := "(I)I" } : Jvm.MethodName)) ∈ lw_all := sorry
theorem q2256 : (Jvm.Cond.code ({ cls := "LabelDriverModel", name := "labelLong", desc := "(I)I" } : Jvm.MethodName) prog_16_method_27_code (2 : Nat) (Option.some Jvm.ClassFile.FieldType.int)) ∈ lw_all := sorry
theorem q2258 : (Jvm.Cond.instanceMethod ({ cls := "LabelDriverModel", name := "undoDepth", desc := "()I" } : Jvm.MethodName)) ∈ lw_all := sorry
theorem q2259 : (Jvm.Cond.selects "LabelDriverModel" ({ cls := "LabelDriverModel", name := "undoDepth", desc := "()I" } : Jvm.MethodName) ({ cls := "LabelDriverModel", name := "undoDepth", desc := "()I" } : Jvm.MethodName)) ∈ lw_all := sorry
theorem q2260 : (Jvm.Cond.code ({ cls := "LabelDriverModel", name := "undoDepth", desc := "()I" } : Jvm.MethodName) prog_16_method_26_code (1 : Nat) (Option.some Jvm.ClassFile.FieldType.int)) ∈ lw_all := sorry
theorem q2262 : (Jvm.Cond.instanceMethod ({ cls := "LabelDriverModel", name := "mountRoll", desc := "(IIIII)I" } : Jvm.MethodName)) ∈ lw_all := sorry
theorem q2263 : (Jvm.Cond.selects "LabelDriverModel" ({ cls := "LabelDriverModel", name := "mountRoll", desc := "(IIIII)I" } : Jvm.MethodName) ({ cls := "LabelDriverModel", name := "mountRoll", desc := "(IIIII)I" } : Jvm.MethodName)) ∈ lw_all := sorry
theorem q2264 : (Jvm.Cond.code ({ cls := "LabelDriverModel", name := "mountRoll", desc := "(IIIII)I" } : Jvm.MethodName) prog_16_method_35_code (8 : Nat) (Option.some Jvm.ClassFile.FieldType.int)) ∈ lw_all := sorry
theorem q2265 : (Jvm.Cond.methodLink "LabelDriverModel" (213 : Nat) ({ cls := "LabelDriverModel", name := "record", desc := "()V" } : Jvm.MethodName)) ∈ lw_all := sorry
theorem q2266 : (Jvm.Cond.privateMethod ({ cls := "LabelDriverModel", name := "record", desc := "()V" } : Jvm.MethodName)) ∈ lw_tbl := sorry
theorem q2267 : (Jvm.Cond.instanceMethod ({ cls := "LabelDriverModel", name := "record", desc := "()V" } : Jvm.MethodName)) ∈ lw_all := sorry
theorem q2268 : (Jvm.Cond.code ({ cls := "LabelDriverModel", name := "record", desc := "()V" } : Jvm.MethodName) prog_16_method_24_code (2 : Nat) (Option.none : Option Jvm.ClassFile.FieldType)) ∈ lw_all := sorry
theorem q2269 : (Jvm.Cond.methodLink "LabelDriverModel" (204 : Nat) ({ cls := "LabelDriverModel", name := "end", desc := "()I" } : Jvm.MethodName)) ∈ lw_all := sorry
theorem q2270 : (Jvm.Cond.privateMethod ({ cls := "LabelDriverModel", name := "end", desc := "()I" } : Jvm.MethodName)) ∈ lw_tbl := sorry
theorem q2271 : (Jvm.Cond.instanceMethod ({ cls := "LabelDriverModel", name := "end", desc := "()I" } : Jvm.MethodName)) ∈ lw_all := sorry
theorem q2272 : (Jvm.Cond.code ({ cls := "LabelDriverModel", name := "end", desc := "()I" } : Jvm.MethodName) prog_16_method_29_code (1 : Nat) (Option.some Jvm.ClassFile.FieldType.int)) ∈ lw_all := sorry
theorem q2274 : (Jvm.Cond.instanceMethod ({ cls := "LabelDriverModel", name := "stretch", desc := "(II)I" } : Jvm.MethodName)) ∈ lw_all := sorry
theorem q2275 : (Jvm.Cond.selects "LabelDriverModel" ({ cls := "LabelDriverModel", name := "stretch", desc := "(II)I" } : Jvm.MethodName) ({ cls := "LabelDriverModel", name := "stretch", desc := "(II)I" } : Jvm.MethodName)) ∈ lw_all := sorry
theorem q2276 : (Jvm.Cond.code ({ cls := "LabelDriverModel", name := "stretch", desc := "(II)I" } : Jvm.MethodName) prog_16_method_36_code (4 : Nat) (Option.some Jvm.ClassFile.FieldType.int)) ∈ lw_all := sorry
theorem q2277 : (Jvm.Cond.methodLink "LabelDriverModel" (216 : Nat) ({ cls := "LabelDriverModel", name := "isMounted", desc := "()Z" } : Jvm.MethodName)) ∈ lw_all := sorry
theorem q2278 : (Jvm.Cond.privateMethod ({ cls := "LabelDriverModel", name := "isMounted", desc := "()Z" } : Jvm.MethodName)) ∈ lw_tbl := sorry
theorem q2279 : (Jvm.Cond.instanceMethod ({ cls := "LabelDriverModel", name := "isMounted", desc := "()Z" } : Jvm.MethodName)) ∈ lw_all := sorry
theorem q2280 : (Jvm.Cond.code ({ cls := "LabelDriverModel", name := "isMounted", desc := "()Z" } : Jvm.MethodName) prog_16_method_30_code (1 : Nat) (Option.some Jvm.ClassFile.FieldType.boolean)) ∈ lw_all := sorry
theorem q2282 : (Jvm.Cond.instanceMethod ({ cls := "LabelDriverModel", name := "mountRibbon", desc := "(I)I" } : Jvm.MethodName)) ∈ lw_all := sorry
theorem q2283 : (Jvm.Cond.selects "LabelDriverModel" ({ cls := "LabelDriverModel", name := "mountRibbon", desc := "(I)I" } : Jvm.MethodName) ({ cls := "LabelDriverModel", name := "mountRibbon", desc := "(I)I" } : Jvm.MethodName)) ∈ lw_all := sorry
theorem q2284 : (Jvm.Cond.code ({ cls := "LabelDriverModel", name := "mountRibbon", desc := "(I)I" } : Jvm.MethodName) prog_16_method_37_code (3 : Nat) (Option.some Jvm.ClassFile.FieldType.int)) ∈ lw_all := sorry
theorem q2285 : (Jvm.Cond.constant "LabelDriverModel" (219 : Nat) (99999 : Int32)) ∈ lw_all := sorry
theorem q2287 : (Jvm.Cond.instanceMethod ({ cls := "LabelDriverModel", name := "ribbonLeft", desc := "()I" } : Jvm.MethodName)) ∈ lw_all := sorry
theorem q2288 : (Jvm.Cond.selects "LabelDriverModel" ({ cls := "LabelDriverModel", name := "ribbonLeft", desc := "()I" } : Jvm.MethodName) ({ cls := "LabelDriverModel", name := "ribbonLeft", desc := "()I" } : Jvm.MethodName)) ∈ lw_all := sorry
theorem q2289 : (Jvm.Cond.code ({ cls := "LabelDriverModel", name := "ribbonLeft", desc := "()I" } : Jvm.MethodName) prog_16_method_38_code (1 : Nat) (Option.some Jvm.ClassFile.FieldType.int)) ∈ lw_all := sorry
theorem q2291 : (Jvm.Cond.instanceMethod ({ cls := "LabelDriverModel", name := "position", desc := "()I" } : Jvm.MethodName)) ∈ lw_all := sorry
theorem q2292 : (Jvm.Cond.selects "LabelDriverModel" ({ cls := "LabelDriverModel", name := "position", desc := "()I" } : Jvm.MethodName) ({ cls := "LabelDriverModel", name := "position", desc := "()I" } : Jvm.MethodName)) ∈ lw_all := sorry
theorem q2293 : (Jvm.Cond.code ({ cls := "LabelDriverModel", name := "position", desc := "()I" } : Jvm.MethodName) prog_16_method_39_code (1 : Nat) (Option.some Jvm.ClassFile.FieldType.int)) ∈ lw_all := sorry
theorem q2295 : (Jvm.Cond.instanceMethod ({ cls := "LabelDriverModel", name := "webEnd", desc := "()I" } : Jvm.MethodName)) ∈ lw_all := sorry
theorem q2296 : (Jvm.Cond.selects "LabelDriverModel" ({ cls := "LabelDriverModel", name := "webEnd", desc := "()I" } : Jvm.MethodName) ({ cls := "LabelDriverModel", name := "webEnd", desc := "()I" } : Jvm.MethodName)) ∈ lw_all := sorry
theorem q2297 : (Jvm.Cond.code ({ cls := "LabelDriverModel", name := "webEnd", desc := "()I" } : Jvm.MethodName) prog_16_method_40_code (1 : Nat) (Option.some Jvm.ClassFile.FieldType.int)) ∈ lw_all := sorry
theorem q2299 : (Jvm.Cond.instanceMethod ({ cls := "LabelDriverModel", name := "labelBegin", desc := "(I)I" } : Jvm.MethodName)) ∈ lw_all := sorry
theorem q2300 : (Jvm.Cond.selects "LabelDriverModel" ({ cls := "LabelDriverModel", name := "labelBegin", desc := "(I)I" } : Jvm.MethodName) ({ cls := "LabelDriverModel", name := "labelBegin", desc := "(I)I" } : Jvm.MethodName)) ∈ lw_all := sorry
theorem q2301 : (Jvm.Cond.code ({ cls := "LabelDriverModel", name := "labelBegin", desc := "(I)I" } : Jvm.MethodName) prog_16_method_41_code (2 : Nat) (Option.some Jvm.ClassFile.FieldType.int)) ∈ lw_all := sorry
theorem q2303 : (Jvm.Cond.instanceMethod ({ cls := "LabelDriverModel", name := "lightAt", desc := "(I)I" } : Jvm.MethodName)) ∈ lw_all := sorry
theorem q2304 : (Jvm.Cond.selects "LabelDriverModel" ({ cls := "LabelDriverModel", name := "lightAt", desc := "(I)I" } : Jvm.MethodName) ({ cls := "LabelDriverModel", name := "lightAt", desc := "(I)I" } : Jvm.MethodName)) ∈ lw_all := sorry
theorem q2305 : (Jvm.Cond.code ({ cls := "LabelDriverModel", name := "lightAt", desc := "(I)I" } : Jvm.MethodName) prog_16_method_42_code (2 : Nat) (Option.some Jvm.ClassFile.FieldType.int)) ∈ lw_all := sorry
theorem q2306 : (Jvm.Cond.methodLink "LabelDriverModel" (220 : Nat) ({ cls := "LabelDriverModel", name := "light", desc := "(I)I" } : Jvm.MethodName)) ∈ lw_all := sorry
theorem q2307 : (Jvm.Cond.privateMethod ({ cls := "LabelDriverModel", name := "light", desc := "(I)I" } : Jvm.MethodName)) ∈ lw_tbl := sorry
theorem q2308 : (Jvm.Cond.instanceMethod ({ cls := "LabelDriverModel", name := "light", desc := "(I)I" } : Jvm.MethodName)) ∈ lw_all := sorry
theorem q2309 : (Jvm.Cond.code ({ cls := "LabelDriverModel", name := "light", desc := "(I)I" } : Jvm.MethodName) prog_16_method_33_code (3 : Nat) (Option.some Jvm.ClassFile.FieldType.int)) ∈ lw_all := sorry
theorem q2310 : (Jvm.Cond.methodLink "LabelDriverModel" (207 : Nat) ({ cls := "LabelDriverModel", name := "labelOf", desc := "(I)I" } : Jvm.MethodName)) ∈ lw_all := sorry
theorem q2311 : (Jvm.Cond.privateMethod ({ cls := "LabelDriverModel", name := "labelOf", desc := "(I)I" } : Jvm.MethodName)) ∈ lw_tbl := sorry
theorem q2312 : (Jvm.Cond.instanceMethod ({ cls := "LabelDriverModel", name := "labelOf", desc := "(I)I" } : Jvm.MethodName)) ∈ lw_all := sorry
theorem q2313 : (Jvm.Cond.code ({ cls := "LabelDriverModel", name := "labelOf", desc := "(I)I" } : Jvm.MethodName) prog_16_method_32_code (5 : Nat) (Option.some Jvm.ClassFile.FieldType.int)) ∈ lw_all := sorry
theorem q2315 : (Jvm.Cond.instanceMethod ({ cls := "LabelDriverModel", name := "labelUnderHead", desc := "()I" } : Jvm.MethodName)) ∈ lw_all := sorry
theorem q2316 : (Jvm.Cond.selects "LabelDriverModel" ({ cls := "LabelDriverModel", name := "labelUnderHead", desc := "()I" } : Jvm.MethodName) ({ cls := "LabelDriverModel", name := "labelUnderHead", desc := "()I" } : Jvm.MethodName)) ∈ lw_all := sorry
theorem q2317 : (Jvm.Cond.code ({ cls := "LabelDriverModel", name := "labelUnderHead", desc := "()I" } : Jvm.MethodName) prog_16_method_43_code (1 : Nat) (Option.some Jvm.ClassFile.FieldType.int)) ∈ lw_all := sorry
theorem q2319 : (Jvm.Cond.instanceMethod ({ cls := "LabelDriverModel", name := "feed", desc := "(I)I" } : Jvm.MethodName)) ∈ lw_all := sorry
theorem q2320 : (Jvm.Cond.selects "LabelDriverModel" ({ cls := "LabelDriverModel", name := "feed", desc := "(I)I" } : Jvm.MethodName) ({ cls := "LabelDriverModel", name := "feed", desc := "(I)I" } : Jvm.MethodName)) ∈ lw_all := sorry
theorem q2321 : (Jvm.Cond.code ({ cls := "LabelDriverModel", name := "feed", desc := "(I)I" } : Jvm.MethodName) prog_16_method_44_code (2 : Nat) (Option.some Jvm.ClassFile.FieldType.int)) ∈ lw_all := sorry
theorem q2322 : (Jvm.Cond.methodLink "LabelDriverModel" (223 : Nat) ({ cls := "LabelDriverModel", name := "feedsTo", desc := "(I)V" } : Jvm.MethodName)) ∈ lw_all := sorry
theorem q2323 : (Jvm.Cond.privateMethod ({ cls := "LabelDriverModel", name := "feedsTo", desc := "(I)V" } : Jvm.MethodName)) ∈ lw_tbl := sorry
theorem q2324 : (Jvm.Cond.instanceMethod ({ cls := "LabelDriverModel", name := "feedsTo", desc := "(I)V" } : Jvm.MethodName)) ∈ lw_all := sorry
theorem q2325 : (Jvm.Cond.code ({ cls := "LabelDriverModel", name := "feedsTo", desc := "(I)V" } : Jvm.MethodName) prog_16_method_34_code (2 : Nat) (Option.none : Option Jvm.ClassFile.FieldType)) ∈ lw_all := sorry
theorem q2326 : (Jvm.Cond.methodLink "LabelDriverModel" (210 : Nat) ({ cls := "LabelDriverModel", name := "greater", desc := "(II)I" } : Jvm.MethodName)) ∈ lw_all := sorry
theorem q2327 : (Jvm.Cond.static ({ cls := "LabelDriverModel", name := "greater", desc := "(II)I" } : Jvm.MethodName)) ∈ lw_all := sorry
theorem q2328 : (Jvm.Cond.code ({ cls := "LabelDriverModel", name := "greater", desc := "(II)I" } : Jvm.MethodName) prog_16_method_5_code (2 : Nat) (Option.some Jvm.ClassFile.FieldType.int)) ∈ lw_all := sorry
theorem q2330 : (Jvm.Cond.instanceMethod ({ cls := "LabelDriverModel", name := "feedToForm", desc := "()I" } : Jvm.MethodName)) ∈ lw_all := sorry
theorem q2331 : (Jvm.Cond.selects "LabelDriverModel" ({ cls := "LabelDriverModel", name := "feedToForm", desc := "()I" } : Jvm.MethodName) ({ cls := "LabelDriverModel", name := "feedToForm", desc := "()I" } : Jvm.MethodName)) ∈ lw_all := sorry
theorem q2332 : (Jvm.Cond.code ({ cls := "LabelDriverModel", name := "feedToForm", desc := "()I" } : Jvm.MethodName) prog_16_method_45_code (2 : Nat) (Option.some Jvm.ClassFile.FieldType.int)) ∈ lw_all := sorry
theorem q2333 : (Jvm.Cond.methodLink "LabelDriverModel" (227 : Nat) ({ cls := "LabelDriverModel", name := "isReadyNow", desc := "()Z" } : Jvm.MethodName)) ∈ lw_all := sorry
theorem q2334 : (Jvm.Cond.privateMethod ({ cls := "LabelDriverModel", name := "isReadyNow", desc := "()Z" } : Jvm.MethodName)) ∈ lw_tbl := sorry
theorem q2335 : (Jvm.Cond.instanceMethod ({ cls := "LabelDriverModel", name := "isReadyNow", desc := "()Z" } : Jvm.MethodName)) ∈ lw_all := sorry
theorem q2336 : (Jvm.Cond.code ({ cls := "LabelDriverModel", name := "isReadyNow", desc := "()Z" } : Jvm.MethodName) prog_16_method_31_code (1 : Nat) (Option.some Jvm.ClassFile.FieldType.boolean)) ∈ lw_all := sorry
theorem q2338 : (Jvm.Cond.instanceMethod ({ cls := "LabelDriverModel", name := "learn", desc := "()I" } : Jvm.MethodName)) ∈ lw_all := sorry
theorem q2339 : (Jvm.Cond.selects "LabelDriverModel" ({ cls := "LabelDriverModel", name := "learn", desc := "()I" } : Jvm.MethodName) ({ cls := "LabelDriverModel", name := "learn", desc := "()I" } : Jvm.MethodName)) ∈ lw_all := sorry
theorem q2340 : (Jvm.Cond.code ({ cls := "LabelDriverModel", name := "learn", desc := "()I" } : Jvm.MethodName) prog_16_method_53_code (1 : Nat) (Option.some Jvm.ClassFile.FieldType.int)) ∈ lw_all := sorry
theorem q2341 : (Jvm.Cond.methodLink "LabelDriverModel" (252 : Nat) ({ cls := "LabelDriverModel", name := "learns", desc := "()I" } : Jvm.MethodName)) ∈ lw_all := sorry
theorem q2342 : (Jvm.Cond.privateMethod ({ cls := "LabelDriverModel", name := "learns", desc := "()I" } : Jvm.MethodName)) ∈ lw_tbl := sorry
theorem q2343 : (Jvm.Cond.instanceMethod ({ cls := "LabelDriverModel", name := "learns", desc := "()I" } : Jvm.MethodName)) ∈ lw_all := sorry
theorem q2344 : (Jvm.Cond.code ({ cls := "LabelDriverModel", name := "learns", desc := "()I" } : Jvm.MethodName) prog_16_method_50_code (7 : Nat) (Option.some Jvm.ClassFile.FieldType.int)) ∈ lw_all := sorry
theorem q2345 : (Jvm.Cond.methodLink "LabelDriverModel" (237 : Nat) ({ cls := "LabelDriverModel", name := "lesser", desc := "(II)I" } : Jvm.MethodName)) ∈ lw_all := sorry
theorem q2346 : (Jvm.Cond.static ({ cls := "LabelDriverModel", name := "lesser", desc := "(II)I" } : Jvm.MethodName)) ∈ lw_all := sorry
theorem q2347 : (Jvm.Cond.code ({ cls := "LabelDriverModel", name := "lesser", desc := "(II)I" } : Jvm.MethodName) prog_16_method_4_code (2 : Nat) (Option.some Jvm.ClassFile.FieldType.int)) ∈ lw_all := sorry
theorem q2348 : (Jvm.Cond.methodLink "LabelDriverModel" (240 : Nat) ({ cls := "LabelDriverModel", name := "fails", desc := "(I)I" } : Jvm.MethodName)) ∈ lw_all := sorry
theorem q2349 : (Jvm.Cond.privateMethod ({ cls := "LabelDriverModel", name := "fails", desc := "(I)I" } : Jvm.MethodName)) ∈ lw_tbl := sorry
theorem q2350 : (Jvm.Cond.instanceMethod ({ cls := "LabelDriverModel", name := "fails", desc := "(I)I" } : Jvm.MethodName)) ∈ lw_all := sorry
theorem q2351 : (Jvm.Cond.code ({ cls := "LabelDriverModel", name := "fails", desc := "(I)I" } : Jvm.MethodName) prog_16_method_49_code (2 : Nat) (Option.some Jvm.ClassFile.FieldType.int)) ∈ lw_all := sorry
theorem q2352 : (Jvm.Cond.methodLink "LabelDriverModel" (230 : Nat) ({ cls := "LabelDriverModel", name := "isLight", desc := "(I)Z" } : Jvm.MethodName)) ∈ lw_all := sorry
theorem q2353 : (Jvm.Cond.privateMethod ({ cls := "LabelDriverModel", name := "isLight", desc := "(I)Z" } : Jvm.MethodName)) ∈ lw_tbl := sorry
theorem q2354 : (Jvm.Cond.instanceMethod ({ cls := "LabelDriverModel", name := "isLight", desc := "(I)Z" } : Jvm.MethodName)) ∈ lw_all := sorry
theorem q2355 : (Jvm.Cond.code ({ cls := "LabelDriverModel", name := "isLight", desc := "(I)Z" } : Jvm.MethodName) prog_16_method_46_code (2 : Nat) (Option.some Jvm.ClassFile.FieldType.boolean)) ∈ lw_all := sorry
theorem q2356 : (Jvm.Cond.methodLink "LabelDriverModel" (243 : Nat) ({ cls := "LabelDriverModel", name := "looksForGaps", desc := "(II)I" } : Jvm.MethodName)) ∈ lw_all := sorry
theorem q2357 : (Jvm.Cond.privateMethod ({ cls := "LabelDriverModel", name := "looksForGaps", desc := "(II)I" } : Jvm.MethodName)) ∈ lw_tbl := sorry
theorem q2358 : (Jvm.Cond.instanceMethod ({ cls := "LabelDriverModel", name := "looksForGaps", desc := "(II)I" } : Jvm.MethodName)) ∈ lw_all := sorry
theorem q2359 : (Jvm.Cond.code ({ cls := "LabelDriverModel", name := "looksForGaps", desc := "(II)I" } : Jvm.MethodName) prog_16_method_51_code (9 : Nat) (Option.some Jvm.ClassFile.FieldType.int)) ∈ lw_all := sorry
theorem q2360 : (Jvm.Cond.methodLink "LabelDriverModel" (246 : Nat) ({ cls := "LabelDriverModel", name := "beginsGap", desc := "(I)Z" } : Jvm.MethodName)) ∈ lw_all := sorry
theorem q2361 : (Jvm.Cond.privateMethod ({ cls := "LabelDriverModel", name := "beginsGap", desc := "(I)Z" } : Jvm.MethodName)) ∈ lw_tbl := sorry
theorem q2362 : (Jvm.Cond.instanceMethod ({ cls := "LabelDriverModel", name := "beginsGap", desc := "(I)Z" } : Jvm.MethodName)) ∈ lw_all := sorry
theorem q2363 : (Jvm.Cond.code ({ cls := "LabelDriverModel", name := "beginsGap", desc := "(I)Z" } : Jvm.MethodName) prog_16_method_48_code (2 : Nat) (Option.some Jvm.ClassFile.FieldType.boolean)) ∈ lw_all := sorry
theorem q2364 : (Jvm.Cond.methodLink "LabelDriverModel" (234 : Nat) ({ cls := "LabelDriverModel", name := "isLikeGaps", desc := "(I)Z" } : Jvm.MethodName)) ∈ lw_all := sorry
theorem q2365 : (Jvm.Cond.privateMethod ({ cls := "LabelDriverModel", name := "isLikeGaps", desc := "(I)Z" } : Jvm.MethodName)) ∈ lw_tbl := sorry
theorem q2366 : (Jvm.Cond.instanceMethod ({ cls := "LabelDriverModel", name := "isLikeGaps", desc := "(I)Z" } : Jvm.MethodName)) ∈ lw_all := sorry
theorem q2367 : (Jvm.Cond.code ({ cls := "LabelDriverModel", name := "isLikeGaps", desc := "(I)Z" } : Jvm.MethodName) prog_16_method_47_code (2 : Nat) (Option.some Jvm.ClassFile.FieldType.boolean)) ∈ lw_all := sorry
theorem q2368 : (Jvm.Cond.methodLink "LabelDriverModel" (249 : Nat) ({ cls := "LabelDriverModel", name := "pitch", desc := "()I" } : Jvm.MethodName)) ∈ lw_all := sorry
theorem q2369 : (Jvm.Cond.privateMethod ({ cls := "LabelDriverModel", name := "pitch", desc := "()I" } : Jvm.MethodName)) ∈ lw_tbl := sorry
theorem q2370 : (Jvm.Cond.instanceMethod ({ cls := "LabelDriverModel", name := "pitch", desc := "()I" } : Jvm.MethodName)) ∈ lw_all := sorry
theorem q2371 : (Jvm.Cond.code ({ cls := "LabelDriverModel", name := "pitch", desc := "()I" } : Jvm.MethodName) prog_16_method_52_code (1 : Nat) (Option.some Jvm.ClassFile.FieldType.int)) ∈ lw_all := sorry
theorem q2373 : (Jvm.Cond.instanceMethod ({ cls := "LabelDriverModel", name := "isReady", desc := "()Z" } : Jvm.MethodName)) ∈ lw_all := sorry
theorem q2374 : (Jvm.Cond.selects "LabelDriverModel" ({ cls := "LabelDriverModel", name := "isReady", desc := "()Z" } : Jvm.MethodName) ({ cls := "LabelDriverModel", name := "isReady", desc := "()Z" } : Jvm.MethodName)) ∈ lw_all := sorry
theorem q2375 : (Jvm.Cond.code ({ cls := "LabelDriverModel", name := "isReady", desc := "()Z" } : Jvm.MethodName) prog_16_method_54_code (1 : Nat) (Option.some Jvm.ClassFile.FieldType.boolean)) ∈ lw_all := sorry
theorem q2377 : (Jvm.Cond.instanceMethod ({ cls := "LabelDriverModel", name := "learned", desc := "(I)I" } : Jvm.MethodName)) ∈ lw_all := sorry
theorem q2378 : (Jvm.Cond.selects "LabelDriverModel" ({ cls := "LabelDriverModel", name := "learned", desc := "(I)I" } : Jvm.MethodName) ({ cls := "LabelDriverModel", name := "learned", desc := "(I)I" } : Jvm.MethodName)) ∈ lw_all := sorry
theorem q2379 : (Jvm.Cond.code ({ cls := "LabelDriverModel", name := "learned", desc := "(I)I" } : Jvm.MethodName) prog_16_method_55_code (2 : Nat) (Option.some Jvm.ClassFile.FieldType.int)) ∈ lw_all := sorry
theorem q2381 : (Jvm.Cond.instanceMethod ({ cls := "LabelDriverModel", name := "gapsSeen", desc := "()I" } : Jvm.MethodName)) ∈ lw_all := sorry
theorem q2382 : (Jvm.Cond.selects "LabelDriverModel" ({ cls := "LabelDriverModel", name := "gapsSeen", desc := "()I" } : Jvm.MethodName) ({ cls := "LabelDriverModel", name := "gapsSeen", desc := "()I" } : Jvm.MethodName)) ∈ lw_all := sorry
theorem q2383 : (Jvm.Cond.code ({ cls := "LabelDriverModel", name := "gapsSeen", desc := "()I" } : Jvm.MethodName) prog_16_method_56_code (3 : Nat) (Option.some Jvm.ClassFile.FieldType.int)) ∈ lw_all := sorry
theorem q2385 : (Jvm.Cond.instanceMethod ({ cls := "LabelDriverModel", name := "seenTo", desc := "()I" } : Jvm.MethodName)) ∈ lw_all := sorry
theorem q2386 : (Jvm.Cond.selects "LabelDriverModel" ({ cls := "LabelDriverModel", name := "seenTo", desc := "()I" } : Jvm.MethodName) ({ cls := "LabelDriverModel", name := "seenTo", desc := "()I" } : Jvm.MethodName)) ∈ lw_all := sorry
theorem q2387 : (Jvm.Cond.code ({ cls := "LabelDriverModel", name := "seenTo", desc := "()I" } : Jvm.MethodName) prog_16_method_57_code (1 : Nat) (Option.some Jvm.ClassFile.FieldType.int)) ∈ lw_all := sorry
theorem q2389 : (Jvm.Cond.instanceMethod ({ cls := "LabelDriverModel", name := "backfeed", desc := "()I" } : Jvm.MethodName)) ∈ lw_all := sorry
theorem q2390 : (Jvm.Cond.selects "LabelDriverModel" ({ cls := "LabelDriverModel", name := "backfeed", desc := "()I" } : Jvm.MethodName) ({ cls := "LabelDriverModel", name := "backfeed", desc := "()I" } : Jvm.MethodName)) ∈ lw_all := sorry
theorem q2391 : (Jvm.Cond.code ({ cls := "LabelDriverModel", name := "backfeed", desc := "()I" } : Jvm.MethodName) prog_16_method_58_code (1 : Nat) (Option.some Jvm.ClassFile.FieldType.int)) ∈ lw_all := sorry
theorem q2393 : (Jvm.Cond.instanceMethod ({ cls := "LabelDriverModel", name := "nextGap", desc := "(I)I" } : Jvm.MethodName)) ∈ lw_all := sorry
theorem q2394 : (Jvm.Cond.selects "LabelDriverModel" ({ cls := "LabelDriverModel", name := "nextGap", desc := "(I)I" } : Jvm.MethodName) ({ cls := "LabelDriverModel", name := "nextGap", desc := "(I)I" } : Jvm.MethodName)) ∈ lw_all := sorry
theorem q2395 : (Jvm.Cond.code ({ cls := "LabelDriverModel", name := "nextGap", desc := "(I)I" } : Jvm.MethodName) prog_16_method_59_code (3 : Nat) (Option.some Jvm.ClassFile.FieldType.int)) ∈ lw_all := sorry
theorem q2397 : (Jvm.Cond.instanceMethod ({ cls := "LabelDriverModel", name := "lastShift", desc := "()I" } : Jvm.MethodName)) ∈ lw_all := sorry
theorem q2398 : (Jvm.Cond.selects "LabelDriverModel" ({ cls := "LabelDriverModel", name := "lastShift", desc := "()I" } : Jvm.MethodName) ({ cls := "LabelDriverModel", name := "lastShift", desc := "()I" } : Jvm.MethodName)) ∈ lw_all := sorry
theorem q2399 : (Jvm.Cond.code ({ cls := "LabelDriverModel", name := "lastShift", desc := "()I" } : Jvm.MethodName) prog_16_method_60_code (1 : Nat) (Option.some Jvm.ClassFile.FieldType.int)) ∈ lw_all := sorry
theorem q2401 : (Jvm.Cond.instanceMethod ({ cls := "LabelDriverModel", name := "tearPlace", desc := "()I" } : Jvm.MethodName)) ∈ lw_all := sorry
theorem q2402 : (Jvm.Cond.selects "LabelDriverModel" ({ cls := "LabelDriverModel", name := "tearPlace", desc := "()I" } : Jvm.MethodName) ({ cls := "LabelDriverModel", name := "tearPlace", desc := "()I" } : Jvm.MethodName)) ∈ lw_all := sorry
theorem q2403 : (Jvm.Cond.code ({ cls := "LabelDriverModel", name := "tearPlace", desc := "()I" } : Jvm.MethodName) prog_16_method_62_code (1 : Nat) (Option.some Jvm.ClassFile.FieldType.int)) ∈ lw_all := sorry
theorem q2404 : (Jvm.Cond.methodLink "LabelDriverModel" (255 : Nat) ({ cls := "LabelDriverModel", name := "tear", desc := "()I" } : Jvm.MethodName)) ∈ lw_all := sorry
theorem q2405 : (Jvm.Cond.privateMethod ({ cls := "LabelDriverModel", name := "tear", desc := "()I" } : Jvm.MethodName)) ∈ lw_tbl := sorry
theorem q2406 : (Jvm.Cond.instanceMethod ({ cls := "LabelDriverModel", name := "tear", desc := "()I" } : Jvm.MethodName)) ∈ lw_all := sorry
theorem q2407 : (Jvm.Cond.code ({ cls := "LabelDriverModel", name := "tear", desc := "()I" } : Jvm.MethodName) prog_16_method_61_code (1 : Nat) (Option.some Jvm.ClassFile.FieldType.int)) ∈ lw_all := sorry
theorem q2409 : (Jvm.Cond.instanceMethod ({ cls := "LabelDriverModel", name := "batchField", desc := "(II)I" } : Jvm.MethodName)) ∈ lw_all := sorry
theorem q2410 : (Jvm.Cond.selects "LabelDriverModel" ({ cls := "LabelDriverModel", name := "batchField", desc := "(II)I" } : Jvm.MethodName) ({ cls := "LabelDriverModel", name := "batchField", desc := "(II)I" } : Jvm.MethodName)) ∈ lw_all := sorry
theorem q2411 : (Jvm.Cond.code ({ cls := "LabelDriverModel", name := "batchField", desc := "(II)I" } : Jvm.MethodName) prog_16_method_68_code (3 : Nat) (Option.some Jvm.ClassFile.FieldType.int)) ∈ lw_all := sorry
theorem q2412 : (Jvm.Cond.methodLink "LabelDriverModel" (258 : Nat) ({ cls := "LabelDriverModel", name := "isBatch", desc := "(I)Z" } : Jvm.MethodName)) ∈ lw_all := sorry
theorem q2413 : (Jvm.Cond.privateMethod ({ cls := "LabelDriverModel", name := "isBatch", desc := "(I)Z" } : Jvm.MethodName)) ∈ lw_tbl := sorry
theorem q2414 : (Jvm.Cond.instanceMethod ({ cls := "LabelDriverModel", name := "isBatch", desc := "(I)Z" } : Jvm.MethodName)) ∈ lw_all := sorry
theorem q2415 : (Jvm.Cond.code ({ cls := "LabelDriverModel", name := "isBatch", desc := "(I)Z" } : Jvm.MethodName) prog_16_method_63_code (2 : Nat) (Option.some Jvm.ClassFile.FieldType.boolean)) ∈ lw_all := sorry
theorem q2417 : (Jvm.Cond.instanceMethod ({ cls := "LabelDriverModel", name := "number", desc := "(II)I" } : Jvm.MethodName)) ∈ lw_all := sorry
theorem q2418 : (Jvm.Cond.selects "LabelDriverModel" ({ cls := "LabelDriverModel", name := "number", desc := "(II)I" } : Jvm.MethodName) ({ cls := "LabelDriverModel", name := "number", desc := "(II)I" } : Jvm.MethodName)) ∈ lw_all := sorry
theorem q2419 : (Jvm.Cond.code ({ cls := "LabelDriverModel", name := "number", desc := "(II)I" } : Jvm.MethodName) prog_16_method_71_code (3 : Nat) (Option.some Jvm.ClassFile.FieldType.int)) ∈ lw_all := sorry
theorem q2420 : (Jvm.Cond.methodLink "LabelDriverModel" (261 : Nat) ({ cls := "LabelDriverModel", name := "isSerial", desc := "(II)Z" } : Jvm.MethodName)) ∈ lw_all := sorry
theorem q2421 : (Jvm.Cond.privateMethod ({ cls := "LabelDriverModel", name := "isSerial", desc := "(II)Z" } : Jvm.MethodName)) ∈ lw_tbl := sorry
theorem q2422 : (Jvm.Cond.instanceMethod ({ cls := "LabelDriverModel", name := "isSerial", desc := "(II)Z" } : Jvm.MethodName)) ∈ lw_all := sorry
theorem q2423 : (Jvm.Cond.code ({ cls := "LabelDriverModel", name := "isSerial", desc := "(II)Z" } : Jvm.MethodName) prog_16_method_64_code (3 : Nat) (Option.some Jvm.ClassFile.FieldType.boolean)) ∈ lw_all := sorry
theorem q2424 : (Jvm.Cond.methodLink "LabelDriverModel" (265 : Nat) ({ cls := "LabelDriverModel", name := "place", desc := "(II)I" } : Jvm.MethodName)) ∈ lw_all := sorry
theorem q2425 : (Jvm.Cond.static ({ cls := "LabelDriverModel", name := "place", desc := "(II)I" } : Jvm.MethodName)) ∈ lw_all := sorry
theorem q2426 : (Jvm.Cond.code ({ cls := "LabelDriverModel", name := "place", desc := "(II)I" } : Jvm.MethodName) prog_16_method_65_code (2 : Nat) (Option.some Jvm.ClassFile.FieldType.int)) ∈ lw_all := sorry
theorem q2427 : (Jvm.Cond.methodLink "LabelDriverModel" (268 : Nat) ({ cls := "LabelDriverModel", name := "numberOf", desc := "(I)I" } : Jvm.MethodName)) ∈ lw_all := sorry
theorem q2428 : (Jvm.Cond.privateMethod ({ cls := "LabelDriverModel", name := "numberOf", desc := "(I)I" } : Jvm.MethodName)) ∈ lw_tbl := sorry
theorem q2429 : (Jvm.Cond.instanceMethod ({ cls := "LabelDriverModel", name := "numberOf", desc := "(I)I" } : Jvm.MethodName)) ∈ lw_all := sorry
theorem q2430 : (Jvm.Cond.code ({ cls := "LabelDriverModel", name := "numberOf", desc := "(I)I" } : Jvm.MethodName) prog_16_method_69_code (5 : Nat) (Option.some Jvm.ClassFile.FieldType.int)) ∈ lw_all := sorry
theorem q2432 : (Jvm.Cond.instanceMethod ({ cls := "LabelDriverModel", name := "checkDigit", desc := "(II)I" } : Jvm.MethodName)) ∈ lw_all := sorry
theorem q2433 : (Jvm.Cond.selects "LabelDriverModel" ({ cls := "LabelDriverModel", name := "checkDigit", desc := "(II)I" } : Jvm.MethodName) ({ cls := "LabelDriverModel", name := "checkDigit", desc := "(II)I" } : Jvm.MethodName)) ∈ lw_all := sorry
theorem q2434 : (Jvm.Cond.code ({ cls := "LabelDriverModel", name := "checkDigit", desc := "(II)I" } : Jvm.MethodName) prog_16_method_72_code (3 : Nat) (Option.some Jvm.ClassFile.FieldType.int)) ∈ lw_all := sorry
theorem q2435 : (Jvm.Cond.methodLink "LabelDriverModel" (271 : Nat) ({ cls := "LabelDriverModel", name := "checkOf", desc := "(I)I" } : Jvm.MethodName)) ∈ lw_all := sorry
theorem q2436 : (Jvm.Cond.static ({ cls := "LabelDriverModel", name := "checkOf", desc := "(I)I" } : Jvm.MethodName)) ∈ lw_all := sorry
theorem q2437 : (Jvm.Cond.code ({ cls := "LabelDriverModel", name := "checkOf", desc := "(I)I" } : Jvm.MethodName) prog_16_method_70_code (4 : Nat) (Option.some Jvm.ClassFile.FieldType.int)) ∈ lw_all := sorry
theorem q2439 : (Jvm.Cond.instanceMethod ({ cls := "LabelDriverModel", name := "stateOf", desc := "(II)I" } : Jvm.MethodName)) ∈ lw_all := sorry
theorem q2440 : (Jvm.Cond.selects "LabelDriverModel" ({ cls := "LabelDriverModel", name := "stateOf", desc := "(II)I" } : Jvm.MethodName) ({ cls := "LabelDriverModel", name := "stateOf", desc := "(II)I" } : Jvm.MethodName)) ∈ lw_all := sorry
theorem q2441 : (Jvm.Cond.code ({ cls := "LabelDriverModel", name := "stateOf", desc := "(II)I" } : Jvm.MethodName) prog_16_method_73_code (3 : Nat) (Option.some Jvm.ClassFile.FieldType.int)) ∈ lw_all := sorry
theorem q2443 : (Jvm.Cond.instanceMethod ({ cls := "LabelDriverModel", name := "attempts", desc := "(II)I" } : Jvm.MethodName)) ∈ lw_all := sorry
theorem q2444 : (Jvm.Cond.selects "LabelDriverModel" ({ cls := "LabelDriverModel", name := "attempts", desc := "(II)I" } : Jvm.MethodName) ({ cls := "LabelDriverModel", name := "attempts", desc := "(II)I" } : Jvm.MethodName)) ∈ lw_all := sorry
theorem q2445 : (Jvm.Cond.code ({ cls := "LabelDriverModel", name := "attempts", desc := "(II)I" } : Jvm.MethodName) prog_16_method_74_code (3 : Nat) (Option.some Jvm.ClassFile.FieldType.int)) ∈ lw_all := sorry
theorem q2447 : (Jvm.Cond.instanceMethod ({ cls := "LabelDriverModel", name := "countOf", desc := "(II)I" } : Jvm.MethodName)) ∈ lw_all := sorry
theorem q2448 : (Jvm.Cond.selects "LabelDriverModel" ({ cls := "LabelDriverModel", name := "countOf", desc := "(II)I" } : Jvm.MethodName) ({ cls := "LabelDriverModel", name := "countOf", desc := "(II)I" } : Jvm.MethodName)) ∈ lw_all := sorry
theorem q2449 : (Jvm.Cond.code ({ cls := "LabelDriverModel", name := "countOf", desc := "(II)I" } : Jvm.MethodName) prog_16_method_76_code (3 : Nat) (Option.some Jvm.ClassFile.FieldType.int)) ∈ lw_all := sorry
theorem q2450 : (Jvm.Cond.methodLink "LabelDriverModel" (274 : Nat) ({ cls := "LabelDriverModel", name := "manyIn", desc := "(II)I" } : Jvm.MethodName)) ∈ lw_all := sorry
theorem q2451 : (Jvm.Cond.privateMethod ({ cls := "LabelDriverModel", name := "manyIn", desc := "(II)I" } : Jvm.MethodName)) ∈ lw_tbl := sorry
theorem q2452 : (Jvm.Cond.instanceMethod ({ cls := "LabelDriverModel", name := "manyIn", desc := "(II)I" } : Jvm.MethodName)) ∈ lw_all := sorry
theorem q2453 : (Jvm.Cond.code ({ cls := "LabelDriverModel", name := "manyIn", desc := "(II)I" } : Jvm.MethodName) prog_16_method_75_code (5 : Nat) (Option.some Jvm.ClassFile.FieldType.int)) ∈ lw_all := sorry
theorem q2455 : (Jvm.Cond.instanceMethod ({ cls := "LabelDriverModel", name := "mostAttempts", desc := "()I" } : Jvm.MethodName)) ∈ lw_all := sorry
theorem q2456 : (Jvm.Cond.selects "LabelDriverModel" ({ cls := "LabelDriverModel", name := "mostAttempts", desc := "()I" } : Jvm.MethodName) ({ cls := "LabelDriverModel", name := "mostAttempts", desc := "()I" } : Jvm.MethodName)) ∈ lw_all := sorry
theorem q2457 : (Jvm.Cond.code ({ cls := "LabelDriverModel", name := "mostAttempts", desc := "()I" } : Jvm.MethodName) prog_16_method_77_code (4 : Nat) (Option.some Jvm.ClassFile.FieldType.int)) ∈ lw_all := sorry
theorem q2458 : (Jvm.Cond.methodLink "LabelDriverModel" (277 : Nat) ({ cls := "LabelDriverModel", name := "isThere", desc := "(I)Z" } : Jvm.MethodName)) ∈ lw_all := sorry
theorem q2459 : (Jvm.Cond.privateMethod ({ cls := "LabelDriverModel", name := "isThere", desc := "(I)Z" } : Jvm.MethodName)) ∈ lw_tbl := sorry
theorem q2460 : (Jvm.Cond.instanceMethod ({ cls := "LabelDriverModel", name := "isThere", desc := "(I)Z" } : Jvm.MethodName)) ∈ lw_all := sorry
theorem q2461 : (Jvm.Cond.code ({ cls := "LabelDriverModel", name := "isThere", desc := "(I)Z" } : Jvm.MethodName) prog_16_method_67_code (2 : Nat) (Option.some Jvm.ClassFile.FieldType.boolean)) ∈ lw_all := sorry
theorem q2462 : (Jvm.Cond.methodLink "LabelDriverModel" (280 : Nat) ({ cls := "LabelDriverModel", name := "told", desc := "(I)I" } : Jvm.MethodName)) ∈ lw_all := sorry
theorem q2463 : (Jvm.Cond.static ({ cls := "LabelDriverModel", name := "told", desc := "(I)I" } : Jvm.MethodName)) ∈ lw_all := sorry
theorem q2464 : (Jvm.Cond.code ({ cls := "LabelDriverModel", name := "told", desc := "(I)I" } : Jvm.MethodName) prog_16_method_66_code (1 : Nat) (Option.some Jvm.ClassFile.FieldType.int)) ∈ lw_all := sorry
theorem q2466 : (Jvm.Cond.instanceMethod ({ cls := "LabelDriverModel", name := "reprints", desc := "()I" } : Jvm.MethodName)) ∈ lw_all := sorry
theorem q2467 : (Jvm.Cond.selects "LabelDriverModel" ({ cls := "LabelDriverModel", name := "reprints", desc := "()I" } : Jvm.MethodName) ({ cls := "LabelDriverModel", name := "reprints", desc := "()I" } : Jvm.MethodName)) ∈ lw_all := sorry
theorem q2468 : (Jvm.Cond.code ({ cls := "LabelDriverModel", name := "reprints", desc := "()I" } : Jvm.MethodName) prog_16_method_78_code (1 : Nat) (Option.some Jvm.ClassFile.FieldType.int)) ∈ lw_all := sorry
theorem q2470 : (Jvm.Cond.instanceMethod ({ cls := "LabelDriverModel", name := "reprint", desc := "(I)I" } : Jvm.MethodName)) ∈ lw_all := sorry
theorem q2471 : (Jvm.Cond.selects "LabelDriverModel" ({ cls := "LabelDriverModel", name := "reprint", desc := "(I)I" } : Jvm.MethodName) ({ cls := "LabelDriverModel", name := "reprint", desc := "(I)I" } : Jvm.MethodName)) ∈ lw_all := sorry
theorem q2472 : (Jvm.Cond.code ({ cls := "LabelDriverModel", name := "reprint", desc := "(I)I" } : Jvm.MethodName) prog_16_method_79_code (2 : Nat) (Option.some Jvm.ClassFile.FieldType.int)) ∈ lw_all := sorry
theorem q2474 : (Jvm.Cond.instanceMethod ({ cls := "LabelDriverModel", name := "nextSerial", desc := "()I" } : Jvm.MethodName)) ∈ lw_all := sorry
theorem q2475 : (Jvm.Cond.selects "LabelDriverModel" ({ cls := "LabelDriverModel", name := "nextSerial", desc := "()I" } : Jvm.MethodName) ({ cls := "LabelDriverModel", name := "nextSerial", desc := "()I" } : Jvm.MethodName)) ∈ lw_all := sorry
theorem q2476 : (Jvm.Cond.code ({ cls := "LabelDriverModel", name := "nextSerial", desc := "()I" } : Jvm.MethodName) prog_16_method_81_code (2 : Nat) (Option.some Jvm.ClassFile.FieldType.int)) ∈ lw_all := sorry
theorem q2477 : (Jvm.Cond.methodLink "LabelDriverModel" (283 : Nat) ({ cls := "LabelDriverModel", name := "next", desc := "()I" } : Jvm.MethodName)) ∈ lw_all := sorry
theorem q2478 : (Jvm.Cond.privateMethod ({ cls := "LabelDriverModel", name := "next", desc := "()I" } : Jvm.MethodName)) ∈ lw_tbl := sorry
theorem q2479 : (Jvm.Cond.instanceMethod ({ cls := "LabelDriverModel", name := "next", desc := "()I" } : Jvm.MethodName)) ∈ lw_all := sorry
theorem q2480 : (Jvm.Cond.code ({ cls := "LabelDriverModel", name := "next", desc := "()I" } : Jvm.MethodName) prog_16_method_80_code (2 : Nat) (Option.some Jvm.ClassFile.FieldType.int)) ∈ lw_all := sorry
theorem q2482 : (Jvm.Cond.instanceMethod ({ cls := "LabelDriverModel", name := "printedAs", desc := "(I)I" } : Jvm.MethodName)) ∈ lw_all := sorry
theorem q2483 : (Jvm.Cond.selects "LabelDriverModel" ({ cls := "LabelDriverModel", name := "printedAs", desc := "(I)I" } : Jvm.MethodName) ({ cls := "LabelDriverModel", name := "printedAs", desc := "(I)I" } : Jvm.MethodName)) ∈ lw_all := sorry
theorem q2484 : (Jvm.Cond.code ({ cls := "LabelDriverModel", name := "printedAs", desc := "(I)I" } : Jvm.MethodName) prog_16_method_82_code (3 : Nat) (Option.some Jvm.ClassFile.FieldType.int)) ∈ lw_all := sorry
theorem q2486 : (Jvm.Cond.instanceMethod ({ cls := "LabelDriverModel", name := "verify", desc := "(III)I" } : Jvm.MethodName)) ∈ lw_all := sorry
theorem q2487 : (Jvm.Cond.selects "LabelDriverModel" ({ cls := "LabelDriverModel", name := "verify", desc := "(III)I" } : Jvm.MethodName) ({ cls := "LabelDriverModel", name := "verify", desc := "(III)I" } : Jvm.MethodName)) ∈ lw_all := sorry
theorem q2488 : (Jvm.Cond.code ({ cls := "LabelDriverModel", name := "verify", desc := "(III)I" } : Jvm.MethodName) prog_16_method_83_code (8 : Nat) (Option.some Jvm.ClassFile.FieldType.int)) ∈ lw_all := sorry
theorem q2490 : (Jvm.Cond.instanceMethod ({ cls := "LabelDriverModel", name := "doubles", desc := "()I" } : Jvm.MethodName)) ∈ lw_all := sorry
theorem q2491 : (Jvm.Cond.selects "LabelDriverModel" ({ cls := "LabelDriverModel", name := "doubles", desc := "()I" } : Jvm.MethodName) ({ cls := "LabelDriverModel", name := "doubles", desc := "()I" } : Jvm.MethodName)) ∈ lw_all := sorry
theorem q2492 : (Jvm.Cond.code ({ cls := "LabelDriverModel", name := "doubles", desc := "()I" } : Jvm.MethodName) prog_16_method_84_code (5 : Nat) (Option.some Jvm.ClassFile.FieldType.int)) ∈ lw_all := sorry
theorem q2494 : (Jvm.Cond.instanceMethod ({ cls := "LabelDriverModel", name := "run", desc := "(I)I" } : Jvm.MethodName)) ∈ lw_all := sorry
theorem q2495 : (Jvm.Cond.selects "LabelDriverModel" ({ cls := "LabelDriverModel", name := "run", desc := "(I)I" } : Jvm.MethodName) ({ cls := "LabelDriverModel", name := "run", desc := "(I)I" } : Jvm.MethodName)) ∈ lw_all := sorry
theorem q2496 : (Jvm.Cond.code ({ cls := "LabelDriverModel", name := "run", desc := "(I)I" } : Jvm.MethodName) prog_16_method_93_code (2 : Nat) (Option.some Jvm.ClassFile.FieldType.int)) ∈ lw_all := sorry
theorem q2497 : (Jvm.Cond.methodLink "LabelDriverModel" (304 : Nat) ({ cls := "LabelDriverModel", name := "runs", desc := "(I)I" } : Jvm.MethodName)) ∈ lw_all := sorry
theorem q2498 : (Jvm.Cond.privateMethod ({ cls := "LabelDriverModel", name := "runs", desc := "(I)I" } : Jvm.MethodName)) ∈ lw_tbl := sorry
theorem q2499 : (Jvm.Cond.instanceMethod ({ cls := "LabelDriverModel", name := "runs", desc := "(I)I" } : Jvm.MethodName)) ∈ lw_all := sorry
theorem q2500 : (Jvm.Cond.code ({ cls := "LabelDriverModel", name := "runs", desc := "(I)I" } : Jvm.MethodName) prog_16_method_92_code (5 : Nat) (Option.some Jvm.ClassFile.FieldType.int)) ∈ lw_all := sorry
theorem q2501 : (Jvm.Cond.methodLink "LabelDriverModel" (301 : Nat) ({ cls := "LabelDriverModel", name := "prints", desc := "(I)I" } : Jvm.MethodName)) ∈ lw_all := sorry
theorem q2502 : (Jvm.Cond.privateMethod ({ cls := "LabelDriverModel", name := "prints", desc := "(I)I" } : Jvm.MethodName)) ∈ lw_tbl := sorry
theorem q2503 : (Jvm.Cond.instanceMethod ({ cls := "LabelDriverModel", name := "prints", desc := "(I)I" } : Jvm.MethodName)) ∈ lw_all := sorry
theorem q2504 : (Jvm.Cond.code ({ cls := "LabelDriverModel", name := "prints", desc := "(I)I" } : Jvm.MethodName) prog_16_method_91_code (6 : Nat) (Option.some Jvm.ClassFile.FieldType.int)) ∈ lw_all := sorry
theorem q2505 : (Jvm.Cond.methodLink "LabelDriverModel" (286 : Nat) ({ cls := "LabelDriverModel", name := "takesFromList", desc := "(I)V" } : Jvm.MethodName)) ∈ lw_all := sorry
theorem q2506 : (Jvm.Cond.privateMethod ({ cls := "LabelDriverModel", name := "takesFromList", desc := "(I)V" } : Jvm.MethodName)) ∈ lw_tbl := sorry
theorem q2507 : (Jvm.Cond.instanceMethod ({ cls := "LabelDriverModel", name := "takesFromList", desc := "(I)V" } : Jvm.MethodName)) ∈ lw_all := sorry
theorem q2508 : (Jvm.Cond.code ({ cls := "LabelDriverModel", name := "takesFromList", desc := "(I)V" } : Jvm.MethodName) prog_16_method_86_code (3 : Nat) (Option.none : Option Jvm.ClassFile.FieldType)) ∈ lw_all := sorry
theorem q2509 : (Jvm.Cond.methodLink "LabelDriverModel" (289 : Nat) ({ cls := "LabelDriverModel", name := "dots", desc := "()I" } : Jvm.MethodName)) ∈ lw_all := sorry
theorem q2510 : (Jvm.Cond.privateMethod ({ cls := "LabelDriverModel", name := "dots", desc := "()I" } : Jvm.MethodName)) ∈ lw_tbl := sorry
theorem q2511 : (Jvm.Cond.instanceMethod ({ cls := "LabelDriverModel", name := "dots", desc := "()I" } : Jvm.MethodName)) ∈ lw_all := sorry
theorem q2512 : (Jvm.Cond.code ({ cls := "LabelDriverModel", name := "dots", desc := "()I" } : Jvm.MethodName) prog_16_method_89_code (3 : Nat) (Option.some Jvm.ClassFile.FieldType.int)) ∈ lw_all := sorry
theorem q2513 : (Jvm.Cond.methodLink "LabelDriverModel" (292 : Nat) ({ cls := "LabelDriverModel", name := "gapNear", desc := "(I)I" } : Jvm.MethodName)) ∈ lw_all := sorry
theorem q2514 : (Jvm.Cond.privateMethod ({ cls := "LabelDriverModel", name := "gapNear", desc := "(I)I" } : Jvm.MethodName)) ∈ lw_tbl := sorry
theorem q2515 : (Jvm.Cond.instanceMethod ({ cls := "LabelDriverModel", name := "gapNear", desc := "(I)I" } : Jvm.MethodName)) ∈ lw_all := sorry
theorem q2516 : (Jvm.Cond.code ({ cls := "LabelDriverModel", name := "gapNear", desc := "(I)I" } : Jvm.MethodName) prog_16_method_90_code (3 : Nat) (Option.some Jvm.ClassFile.FieldType.int)) ∈ lw_all := sorry
theorem q2517 : (Jvm.Cond.methodLink "LabelDriverModel" (295 : Nat) ({ cls := "LabelDriverModel", name := "putsFirst", desc := "(I)V" } : Jvm.MethodName)) ∈ lw_all := sorry
theorem q2518 : (Jvm.Cond.privateMethod ({ cls := "LabelDriverModel", name := "putsFirst", desc := "(I)V" } : Jvm.MethodName)) ∈ lw_tbl := sorry
theorem q2519 : (Jvm.Cond.instanceMethod ({ cls := "LabelDriverModel", name := "putsFirst", desc := "(I)V" } : Jvm.MethodName)) ∈ lw_all := sorry
theorem q2520 : (Jvm.Cond.code ({ cls := "LabelDriverModel", name := "putsFirst", desc := "(I)V" } : Jvm.MethodName) prog_16_method_87_code (3 : Nat) (Option.none : Option Jvm.ClassFile.FieldType)) ∈ lw_all := sorry
theorem q2521 : (Jvm.Cond.methodLink "LabelDriverModel" (298 : Nat) ({ cls := "LabelDriverModel", name := "logs", desc := "(II)V" } : Jvm.MethodName)) ∈ lw_all := sorry
theorem q2522 : (Jvm.Cond.privateMethod ({ cls := "LabelDriverModel", name := "logs", desc := "(II)V" } : Jvm.MethodName)) ∈ lw_tbl := sorry
theorem q2523 : (Jvm.Cond.instanceMethod ({ cls := "LabelDriverModel", name := "logs", desc := "(II)V" } : Jvm.MethodName)) ∈ lw_all := sorry
theorem q2524 : (Jvm.Cond.code ({ cls := "LabelDriverModel", name := "logs", desc := "(II)V" } : Jvm.MethodName) prog_16_method_88_code (4 : Nat) (Option.none : Option Jvm.ClassFile.FieldType)) ∈ lw_all := sorry
theorem q2526 : (Jvm.Cond.instanceMethod ({ cls := "LabelDriverModel", name := "wouldRun", desc := "(II)I" } : Jvm.MethodName)) ∈ lw_all := sorry
theorem q2527 : (Jvm.Cond.selects "LabelDriverModel" ({ cls := "LabelDriverModel", name := "wouldRun", desc := "(II)I" } : Jvm.MethodName) ({ cls := "LabelDriverModel", name := "wouldRun", desc := "(II)I" } : Jvm.MethodName)) ∈ lw_all := sorry
theorem q2528 : (Jvm.Cond.code ({ cls := "LabelDriverModel", name := "wouldRun", desc := "(II)I" } : Jvm.MethodName) prog_16_method_94_code (6 : Nat) (Option.some Jvm.ClassFile.FieldType.int)) ∈ lw_all := sorry
theorem q2530 : (Jvm.Cond.instanceMethod ({ cls := "LabelDriverModel", name := "logCount", desc := "()I" } : Jvm.MethodName)) ∈ lw_all := sorry
theorem q2531 : (Jvm.Cond.selects "LabelDriverModel" ({ cls := "LabelDriverModel", name := "logCount", desc := "()I" } : Jvm.MethodName) ({ cls := "LabelDriverModel", name := "logCount", desc := "()I" } : Jvm.MethodName)) ∈ lw_all := sorry
theorem q2532 : (Jvm.Cond.code ({ cls := "LabelDriverModel", name := "logCount", desc := "()I" } : Jvm.MethodName) prog_16_method_95_code (1 : Nat) (Option.some Jvm.ClassFile.FieldType.int)) ∈ lw_all := sorry
theorem q2534 : (Jvm.Cond.instanceMethod ({ cls := "LabelDriverModel", name := "logField", desc := "(II)I" } : Jvm.MethodName)) ∈ lw_all := sorry
theorem q2535 : (Jvm.Cond.selects "LabelDriverModel" ({ cls := "LabelDriverModel", name := "logField", desc := "(II)I" } : Jvm.MethodName) ({ cls := "LabelDriverModel", name := "logField", desc := "(II)I" } : Jvm.MethodName)) ∈ lw_all := sorry
theorem q2536 : (Jvm.Cond.code ({ cls := "LabelDriverModel", name := "logField", desc := "(II)I" } : Jvm.MethodName) prog_16_method_96_code (3 : Nat) (Option.some Jvm.ClassFile.FieldType.int)) ∈ lw_all := sorry
theorem q2538 : (Jvm.Cond.instanceMethod ({ cls := "LabelDriverModel", name := "printingAt", desc := "(I)I" } : Jvm.MethodName)) ∈ lw_all := sorry
theorem q2539 : (Jvm.Cond.selects "LabelDriverModel" ({ cls := "LabelDriverModel", name := "printingAt", desc := "(I)I" } : Jvm.MethodName) ({ cls := "LabelDriverModel", name := "printingAt", desc := "(I)I" } : Jvm.MethodName)) ∈ lw_all := sorry
theorem q2540 : (Jvm.Cond.code ({ cls := "LabelDriverModel", name := "printingAt", desc := "(I)I" } : Jvm.MethodName) prog_16_method_97_code (3 : Nat) (Option.some Jvm.ClassFile.FieldType.int)) ∈ lw_all := sorry
theorem q2542 : (Jvm.Cond.instanceMethod ({ cls := "LabelDriverModel", name := "longestRow", desc := "()I" } : Jvm.MethodName)) ∈ lw_all := sorry
theorem q2543 : (Jvm.Cond.selects "LabelDriverModel" ({ cls := "LabelDriverModel", name := "longestRow", desc := "()I" } : Jvm.MethodName) ({ cls := "LabelDriverModel", name := "longestRow", desc := "()I" } : Jvm.MethodName)) ∈ lw_all := sorry
theorem q2544 : (Jvm.Cond.code ({ cls := "LabelDriverModel", name := "longestRow", desc := "()I" } : Jvm.MethodName) prog_16_method_98_code (4 : Nat) (Option.some Jvm.ClassFile.FieldType.int)) ∈ lw_all := sorry
theorem q2546 : (Jvm.Cond.instanceMethod ({ cls := "LabelDriverModel", name := "trouble", desc := "()I" } : Jvm.MethodName)) ∈ lw_all := sorry
theorem q2547 : (Jvm.Cond.selects "LabelDriverModel" ({ cls := "LabelDriverModel", name := "trouble", desc := "()I" } : Jvm.MethodName) ({ cls := "LabelDriverModel", name := "trouble", desc := "()I" } : Jvm.MethodName)) ∈ lw_all := sorry
theorem q2548 : (Jvm.Cond.code ({ cls := "LabelDriverModel", name := "trouble", desc := "()I" } : Jvm.MethodName) prog_16_method_99_code (1 : Nat) (Option.some Jvm.ClassFile.FieldType.int)) ∈ lw_all := sorry
theorem q2550 : (Jvm.Cond.instanceMethod ({ cls := "LabelDriverModel", name := "causeOfTrouble", desc := "()I" } : Jvm.MethodName)) ∈ lw_all := sorry
theorem q2551 : (Jvm.Cond.selects "LabelDriverModel" ({ cls := "LabelDriverModel", name := "causeOfTrouble", desc := "()I" } : Jvm.MethodName) ({ cls := "LabelDriverModel", name := "causeOfTrouble", desc := "()I" } : Jvm.MethodName)) ∈ lw_all := sorry
theorem q2552 : (Jvm.Cond.code ({ cls := "LabelDriverModel", name := "causeOfTrouble", desc := "()I" } : Jvm.MethodName) prog_16_method_100_code (1 : Nat) (Option.some Jvm.ClassFile.FieldType.int)) ∈ lw_all := sorry
theorem q2554 : (Jvm.Cond.instanceMethod ({ cls := "LabelDriverModel", name := "makeVoid", desc := "(II)I" } : Jvm.MethodName)) ∈ lw_all := sorry
theorem q2555 : (Jvm.Cond.selects "LabelDriverModel" ({ cls := "LabelDriverModel", name := "makeVoid", desc := "(II)I" } : Jvm.MethodName) ({ cls := "LabelDriverModel", name := "makeVoid", desc := "(II)I" } : Jvm.MethodName)) ∈ lw_all := sorry
theorem q2556 : (Jvm.Cond.code ({ cls := "LabelDriverModel", name := "makeVoid", desc := "(II)I" } : Jvm.MethodName) prog_16_method_101_code (3 : Nat) (Option.some Jvm.ClassFile.FieldType.int)) ∈ lw_all := sorry
theorem q2558 : (Jvm.Cond.instanceMethod ({ cls := "LabelDriverModel", name := "requeue", desc := "(II)I" } : Jvm.MethodName)) ∈ lw_all := sorry
theorem q2559 : (Jvm.Cond.selects "LabelDriverModel" ({ cls := "LabelDriverModel", name := "requeue", desc := "(II)I" } : Jvm.MethodName) ({ cls := "LabelDriverModel", name := "requeue", desc := "(II)I" } : Jvm.MethodName)) ∈ lw_all := sorry
theorem q2560 : (Jvm.Cond.code ({ cls := "LabelDriverModel", name := "requeue", desc := "(II)I" } : Jvm.MethodName) prog_16_method_102_code (3 : Nat) (Option.some Jvm.ClassFile.FieldType.int)) ∈ lw_all := sorry
theorem q2561 : (Jvm.Cond.methodLink "LabelDriverModel" (307 : Nat) ({ cls := "LabelDriverModel", name := "placeInList", desc := "(I)I" } : Jvm.MethodName)) ∈ lw_all := sorry
theorem q2562 : (Jvm.Cond.privateMethod ({ cls := "LabelDriverModel", name := "placeInList", desc := "(I)I" } : Jvm.MethodName)) ∈ lw_tbl := sorry
theorem q2563 : (Jvm.Cond.instanceMethod ({ cls := "LabelDriverModel", name := "placeInList", desc := "(I)I" } : Jvm.MethodName)) ∈ lw_all := sorry
theorem q2564 : (Jvm.Cond.code ({ cls := "LabelDriverModel", name := "placeInList", desc := "(I)I" } : Jvm.MethodName) prog_16_method_85_code (3 : Nat) (Option.some Jvm.ClassFile.FieldType.int)) ∈ lw_all := sorry
theorem q2566 : (Jvm.Cond.instanceMethod ({ cls := "LabelDriverModel", name := "unqueue", desc := "(II)I" } : Jvm.MethodName)) ∈ lw_all := sorry
theorem q2567 : (Jvm.Cond.selects "LabelDriverModel" ({ cls := "LabelDriverModel", name := "unqueue", desc := "(II)I" } : Jvm.MethodName) ({ cls := "LabelDriverModel", name := "unqueue", desc := "(II)I" } : Jvm.MethodName)) ∈ lw_all := sorry
theorem q2568 : (Jvm.Cond.code ({ cls := "LabelDriverModel", name := "unqueue", desc := "(II)I" } : Jvm.MethodName) prog_16_method_103_code (3 : Nat) (Option.some Jvm.ClassFile.FieldType.int)) ∈ lw_all := sorry
theorem q2570 : (Jvm.Cond.instanceMethod ({ cls := "LabelDriverModel", name := "abandon", desc := "(I)I" } : Jvm.MethodName)) ∈ lw_all := sorry
theorem q2571 : (Jvm.Cond.selects "LabelDriverModel" ({ cls := "LabelDriverModel", name := "abandon", desc := "(I)I" } : Jvm.MethodName) ({ cls := "LabelDriverModel", name := "abandon", desc := "(I)I" } : Jvm.MethodName)) ∈ lw_all := sorry
theorem q2572 : (Jvm.Cond.code ({ cls := "LabelDriverModel", name := "abandon", desc := "(I)I" } : Jvm.MethodName) prog_16_method_104_code (5 : Nat) (Option.some Jvm.ClassFile.FieldType.int)) ∈ lw_all := sorry
theorem q2574 : (Jvm.Cond.instanceMethod ({ cls := "LabelDriverModel", name := "ribbonLasts", desc := "()I" } : Jvm.MethodName)) ∈ lw_all := sorry
theorem q2575 : (Jvm.Cond.selects "LabelDriverModel" ({ cls := "LabelDriverModel", name := "ribbonLasts", desc := "()I" } : Jvm.MethodName) ({ cls := "LabelDriverModel", name := "ribbonLasts", desc := "()I" } : Jvm.MethodName)) ∈ lw_all := sorry
theorem q2576 : (Jvm.Cond.code ({ cls := "LabelDriverModel", name := "ribbonLasts", desc := "()I" } : Jvm.MethodName) prog_16_method_105_code (2 : Nat) (Option.some Jvm.ClassFile.FieldType.int)) ∈ lw_all := sorry
theorem q2578 : (Jvm.Cond.instanceMethod ({ cls := "LabelDriverModel", name := "webLasts", desc := "()I" } : Jvm.MethodName)) ∈ lw_all := sorry
theorem q2579 : (Jvm.Cond.selects "LabelDriverModel" ({ cls := "LabelDriverModel", name := "webLasts", desc := "()I" } : Jvm.MethodName) ({ cls := "LabelDriverModel", name := "webLasts", desc := "()I" } : Jvm.MethodName)) ∈ lw_all := sorry
theorem q2580 : (Jvm.Cond.code ({ cls := "LabelDriverModel", name := "webLasts", desc := "()I" } : Jvm.MethodName) prog_16_method_106_code (1 : Nat) (Option.some Jvm.ClassFile.FieldType.int)) ∈ lw_all := sorry
theorem q2582 : (Jvm.Cond.instanceMethod ({ cls := "LabelDriverModel", name := "toPrint", desc := "()I" } : Jvm.MethodName)) ∈ lw_all := sorry
theorem q2583 : (Jvm.Cond.selects "LabelDriverModel" ({ cls := "LabelDriverModel", name := "toPrint", desc := "()I" } : Jvm.MethodName) ({ cls := "LabelDriverModel", name := "toPrint", desc := "()I" } : Jvm.MethodName)) ∈ lw_all := sorry
theorem q2584 : (Jvm.Cond.code ({ cls := "LabelDriverModel", name := "toPrint", desc := "()I" } : Jvm.MethodName) prog_16_method_107_code (3 : Nat) (Option.some Jvm.ClassFile.FieldType.int)) ∈ lw_all := sorry
theorem q2586 : (Jvm.Cond.instanceMethod ({ cls := "LabelDriverModel", name := "yieldPercent", desc := "()I" } : Jvm.MethodName)) ∈ lw_all := sorry
theorem q2587 : (Jvm.Cond.selects "LabelDriverModel" ({ cls := "LabelDriverModel", name := "yieldPercent", desc := "()I" } : Jvm.MethodName) ({ cls := "LabelDriverModel", name := "yieldPercent", desc := "()I" } : Jvm.MethodName)) ∈ lw_all := sorry
theorem q2588 : (Jvm.Cond.code ({ cls := "LabelDriverModel", name := "yieldPercent", desc := "()I" } : Jvm.MethodName) prog_16_method_108_code (1 : Nat) (Option.some Jvm.ClassFile.FieldType.int)) ∈ lw_all := sorry
theorem q2590 : (Jvm.Cond.instanceMethod ({ cls := "LabelDriverModel", name := "total", desc := "(I)I" } : Jvm.MethodName)) ∈ lw_all := sorry
theorem q2591 : (Jvm.Cond.selects "LabelDriverModel" ({ cls := "LabelDriverModel", name := "total", desc := "(I)I" } : Jvm.MethodName) ({ cls := "LabelDriverModel", name := "total", desc := "(I)I" } : Jvm.MethodName)) ∈ lw_all := sorry
theorem q2592 : (Jvm.Cond.code ({ cls := "LabelDriverModel", name := "total", desc := "(I)I" } : Jvm.MethodName) prog_16_method_109_code (2 : Nat) (Option.some Jvm.ClassFile.FieldType.int)) ∈ lw_all := sorry
theorem q2594 : (Jvm.Cond.instanceMethod ({ cls := "LabelDriverModel", name := "formatSerial", desc := "(II)I" } : Jvm.MethodName)) ∈ lw_all := sorry
theorem q2595 : (Jvm.Cond.selects "LabelDriverModel" ({ cls := "LabelDriverModel", name := "formatSerial", desc := "(II)I" } : Jvm.MethodName) ({ cls := "LabelDriverModel", name := "formatSerial", desc := "(II)I" } : Jvm.MethodName)) ∈ lw_all := sorry
theorem q2596 : (Jvm.Cond.code ({ cls := "LabelDriverModel", name := "formatSerial", desc := "(II)I" } : Jvm.MethodName) prog_16_method_113_code (6 : Nat) (Option.some Jvm.ClassFile.FieldType.int)) ∈ lw_all := sorry
theorem q2597 : (Jvm.Cond.methodLink "LabelDriverModel" (318 : Nat) ({ cls := "LabelDriverModel", name := "putName", desc := "(I)V" } : Jvm.MethodName)) ∈ lw_all := sorry
theorem q2598 : (Jvm.Cond.privateMethod ({ cls := "LabelDriverModel", name := "putName", desc := "(I)V" } : Jvm.MethodName)) ∈ lw_tbl := sorry
theorem q2599 : (Jvm.Cond.instanceMethod ({ cls := "LabelDriverModel", name := "putName", desc := "(I)V" } : Jvm.MethodName)) ∈ lw_all := sorry
theorem q2600 : (Jvm.Cond.code ({ cls := "LabelDriverModel", name := "putName", desc := "(I)V" } : Jvm.MethodName) prog_16_method_111_code (5 : Nat) (Option.none : Option Jvm.ClassFile.FieldType)) ∈ lw_all := sorry
theorem q2601 : (Jvm.Cond.constantLong "LabelDriverModel" (313 : Nat) (31 : Int64)) ∈ lw_all := sorry
theorem q2602 : (Jvm.Cond.methodLink "LabelDriverModel" (315 : Nat) ({ cls := "LabelDriverModel", name := "put", desc := "(I)V" } : Jvm.MethodName)) ∈ lw_all := sorry
theorem q2603 : (Jvm.Cond.privateMethod ({ cls := "LabelDriverModel", name := "put", desc := "(I)V" } : Jvm.MethodName)) ∈ lw_tbl := sorry
theorem q2604 : (Jvm.Cond.instanceMethod ({ cls := "LabelDriverModel", name := "put", desc := "(I)V" } : Jvm.MethodName)) ∈ lw_all := sorry
theorem q2605 : (Jvm.Cond.code ({ cls := "LabelDriverModel", name := "put", desc := "(I)V" } : Jvm.MethodName) prog_16_method_110_code (2 : Nat) (Option.none : Option Jvm.ClassFile.FieldType)) ∈ lw_all := sorry
theorem q2606 : (Jvm.Cond.methodLink "LabelDriverModel" (321 : Nat) ({ cls := "LabelDriverModel", name := "putMarks", desc := "(I)V" } : Jvm.MethodName)) ∈ lw_all := sorry
theorem q2607 : (Jvm.Cond.privateMethod ({ cls := "LabelDriverModel", name := "putMarks", desc := "(I)V" } : Jvm.MethodName)) ∈ lw_tbl := sorry
theorem q2608 : (Jvm.Cond.instanceMethod ({ cls := "LabelDriverModel", name := "putMarks", desc := "(I)V" } : Jvm.MethodName)) ∈ lw_all := sorry
theorem q2609 : (Jvm.Cond.code ({ cls := "LabelDriverModel", name := "putMarks", desc := "(I)V" } : Jvm.MethodName) prog_16_method_112_code (2 : Nat) (Option.none : Option Jvm.ClassFile.FieldType)) ∈ lw_all := sorry
theorem q2611 : (Jvm.Cond.instanceMethod ({ cls := "LabelDriverModel", name := "formatBatch", desc := "(I)I" } : Jvm.MethodName)) ∈ lw_all := sorry
theorem q2612 : (Jvm.Cond.selects "LabelDriverModel" ({ cls := "LabelDriverModel", name := "formatBatch", desc := "(I)I" } : Jvm.MethodName) ({ cls := "LabelDriverModel", name := "formatBatch", desc := "(I)I" } : Jvm.MethodName)) ∈ lw_all := sorry
theorem q2613 : (Jvm.Cond.code ({ cls := "LabelDriverModel", name := "formatBatch", desc := "(I)I" } : Jvm.MethodName) prog_16_method_114_code (3 : Nat) (Option.some Jvm.ClassFile.FieldType.int)) ∈ lw_all := sorry
theorem q2615 : (Jvm.Cond.instanceMethod ({ cls := "LabelDriverModel", name := "formattedByte", desc := "(I)I" } : Jvm.MethodName)) ∈ lw_all := sorry
theorem q2616 : (Jvm.Cond.selects "LabelDriverModel" ({ cls := "LabelDriverModel", name := "formattedByte", desc := "(I)I" } : Jvm.MethodName) ({ cls := "LabelDriverModel", name := "formattedByte", desc := "(I)I" } : Jvm.MethodName)) ∈ lw_all := sorry
theorem q2617 : (Jvm.Cond.code ({ cls := "LabelDriverModel", name := "formattedByte", desc := "(I)I" } : Jvm.MethodName) prog_16_method_115_code (2 : Nat) (Option.some Jvm.ClassFile.FieldType.int)) ∈ lw_all := sorry
theorem q2645 : (Jvm.Cond.castable "LabelDriverModel" "java/lang/Object") ∈ lw_tbl := sorry
theorem in_X4 : ∀ w ∈ wsX40, w ∈ lw_all := sorry
