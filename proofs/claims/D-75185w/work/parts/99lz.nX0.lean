/-! LabelDriverLaw -/
set_option maxRecDepth 100000
def RX0 : String := "LabelDriverLaw"
abbrev cX0_load : ByteArray := method_3_code
def yX0_load : MethodName := ⟨RX0, "load", "(LLabelDriver;[J)I"⟩
def dkwX0_load_0 : List UInt8 := [43, 3, 42, 182, 0, 7, 133, 80, 167, 0, 6, 77, 4, 172, 3, 172]
abbrev dktX0_load_0 : List UInt8 := dkwX0_load_0 ++ []
theorem dksX0_load_0 : cX0_load.data.toList.drop 0 = dktX0_load_0 := sorry
theorem dX0_load_0 : decode cX0_load 0 = .ok (.aload_n 1, 1) := sorry
theorem dX0_load_1 : decode cX0_load 1 = .ok (.iconst 0, 1) := sorry
theorem dX0_load_2 : decode cX0_load 2 = .ok (.aload_n 0, 1) := sorry
theorem dX0_load_3 : decode cX0_load 3 = .ok (.invokevirtual 7, 3) := sorry
theorem dX0_load_6 : decode cX0_load 6 = .ok (.i2l, 1) := sorry
theorem dX0_load_7 : decode cX0_load 7 = .ok (.lastore, 1) := sorry
theorem dX0_load_8 : decode cX0_load 8 = .ok (.goto 6, 3) := sorry
theorem dX0_load_11 : decode cX0_load 11 = .ok (.astore_n 2, 1) := sorry
theorem dX0_load_12 : decode cX0_load 12 = .ok (.iconst 1, 1) := sorry
theorem dX0_load_13 : decode cX0_load 13 = .ok (.ireturn, 1) := sorry
theorem dX0_load_14 : decode cX0_load 14 = .ok (.iconst 0, 1) := sorry
theorem dX0_load_15 : decode cX0_load 15 = .ok (.ireturn, 1) := sorry
abbrev cX0_mountRoll : ByteArray := method_4_code
def yX0_mountRoll : MethodName := ⟨RX0, "mountRoll", "(LLabelDriver;IIIII[J)I"⟩
def dkwX0_mountRoll_1 : List UInt8 := [172]
abbrev dktX0_mountRoll_1 : List UInt8 := dkwX0_mountRoll_1 ++ []
def dkwX0_mountRoll_0 : List UInt8 := [25, 6, 3, 42, 27, 28, 29, 21, 4, 21, 5, 182, 0, 15, 133, 80, 167, 0, 7, 58, 7, 4, 172, 3]
abbrev dktX0_mountRoll_0 : List UInt8 := dkwX0_mountRoll_0 ++ dktX0_mountRoll_1
theorem dksX0_mountRoll_0 : cX0_mountRoll.data.toList.drop 0 = dktX0_mountRoll_0 := sorry
theorem dksX0_mountRoll_1 : cX0_mountRoll.data.toList.drop 24 = dktX0_mountRoll_1 := sorry
theorem dX0_mountRoll_0 : decode cX0_mountRoll 0 = .ok (.aload 6, 2) := sorry
theorem dX0_mountRoll_2 : decode cX0_mountRoll 2 = .ok (.iconst 0, 1) := sorry
theorem dX0_mountRoll_3 : decode cX0_mountRoll 3 = .ok (.aload_n 0, 1) := sorry
theorem dX0_mountRoll_4 : decode cX0_mountRoll 4 = .ok (.iload_n 1, 1) := sorry
theorem dX0_mountRoll_5 : decode cX0_mountRoll 5 = .ok (.iload_n 2, 1) := sorry
theorem dX0_mountRoll_6 : decode cX0_mountRoll 6 = .ok (.iload_n 3, 1) := sorry
theorem dX0_mountRoll_7 : decode cX0_mountRoll 7 = .ok (.iload 4, 2) := sorry
theorem dX0_mountRoll_9 : decode cX0_mountRoll 9 = .ok (.iload 5, 2) := sorry
theorem dX0_mountRoll_11 : decode cX0_mountRoll 11 = .ok (.invokevirtual 15, 3) := sorry
theorem dX0_mountRoll_14 : decode cX0_mountRoll 14 = .ok (.i2l, 1) := sorry
theorem dX0_mountRoll_15 : decode cX0_mountRoll 15 = .ok (.lastore, 1) := sorry
theorem dX0_mountRoll_16 : decode cX0_mountRoll 16 = .ok (.goto 7, 3) := sorry
theorem dX0_mountRoll_19 : decode cX0_mountRoll 19 = .ok (.astore 7, 2) := sorry
theorem dX0_mountRoll_21 : decode cX0_mountRoll 21 = .ok (.iconst 1, 1) := sorry
theorem dX0_mountRoll_22 : decode cX0_mountRoll 22 = .ok (.ireturn, 1) := sorry
theorem dX0_mountRoll_23 : decode cX0_mountRoll 23 = .ok (.iconst 0, 1) := sorry
theorem dX0_mountRoll_24 : decode cX0_mountRoll 24 = .ok (.ireturn, 1) := sorry
abbrev cX0_stretch : ByteArray := method_5_code
def yX0_stretch : MethodName := ⟨RX0, "stretch", "(LLabelDriver;II[J)I"⟩
def dkwX0_stretch_1 : List UInt8 := [172, 3, 172]
abbrev dktX0_stretch_1 : List UInt8 := dkwX0_stretch_1 ++ []
def dkwX0_stretch_0 : List UInt8 := [45, 3, 42, 27, 28, 182, 0, 19, 133, 80, 167, 0, 15, 58, 4, 4, 172, 58, 4, 5, 172, 58, 4, 6]
abbrev dktX0_stretch_0 : List UInt8 := dkwX0_stretch_0 ++ dktX0_stretch_1
theorem dksX0_stretch_0 : cX0_stretch.data.toList.drop 0 = dktX0_stretch_0 := sorry
theorem dksX0_stretch_1 : cX0_stretch.data.toList.drop 24 = dktX0_stretch_1 := sorry
theorem dX0_stretch_0 : decode cX0_stretch 0 = .ok (.aload_n 3, 1) := sorry
theorem dX0_stretch_1 : decode cX0_stretch 1 = .ok (.iconst 0, 1) := sorry
theorem dX0_stretch_2 : decode cX0_stretch 2 = .ok (.aload_n 0, 1) := sorry
theorem dX0_stretch_3 : decode cX0_stretch 3 = .ok (.iload_n 1, 1) := sorry
theorem dX0_stretch_4 : decode cX0_stretch 4 = .ok (.iload_n 2, 1) := sorry
theorem dX0_stretch_5 : decode cX0_stretch 5 = .ok (.invokevirtual 19, 3) := sorry
theorem dX0_stretch_8 : decode cX0_stretch 8 = .ok (.i2l, 1) := sorry
theorem dX0_stretch_9 : decode cX0_stretch 9 = .ok (.lastore, 1) := sorry
theorem dX0_stretch_10 : decode cX0_stretch 10 = .ok (.goto 15, 3) := sorry
theorem dX0_stretch_13 : decode cX0_stretch 13 = .ok (.astore 4, 2) := sorry
theorem dX0_stretch_15 : decode cX0_stretch 15 = .ok (.iconst 1, 1) := sorry
theorem dX0_stretch_16 : decode cX0_stretch 16 = .ok (.ireturn, 1) := sorry
theorem dX0_stretch_17 : decode cX0_stretch 17 = .ok (.astore 4, 2) := sorry
theorem dX0_stretch_19 : decode cX0_stretch 19 = .ok (.iconst 2, 1) := sorry
theorem dX0_stretch_20 : decode cX0_stretch 20 = .ok (.ireturn, 1) := sorry
theorem dX0_stretch_21 : decode cX0_stretch 21 = .ok (.astore 4, 2) := sorry
theorem dX0_stretch_23 : decode cX0_stretch 23 = .ok (.iconst 3, 1) := sorry
theorem dX0_stretch_24 : decode cX0_stretch 24 = .ok (.ireturn, 1) := sorry
theorem dX0_stretch_25 : decode cX0_stretch 25 = .ok (.iconst 0, 1) := sorry
theorem dX0_stretch_26 : decode cX0_stretch 26 = .ok (.ireturn, 1) := sorry
abbrev cX0_mountRibbon : ByteArray := method_6_code
def yX0_mountRibbon : MethodName := ⟨RX0, "mountRibbon", "(LLabelDriver;I[J)I"⟩
def dkwX0_mountRibbon_0 : List UInt8 := [44, 3, 42, 27, 182, 0, 27, 133, 80, 167, 0, 6, 78, 4, 172, 3, 172]
abbrev dktX0_mountRibbon_0 : List UInt8 := dkwX0_mountRibbon_0 ++ []
theorem dksX0_mountRibbon_0 : cX0_mountRibbon.data.toList.drop 0 = dktX0_mountRibbon_0 := sorry
theorem dX0_mountRibbon_0 : decode cX0_mountRibbon 0 = .ok (.aload_n 2, 1) := sorry
theorem dX0_mountRibbon_1 : decode cX0_mountRibbon 1 = .ok (.iconst 0, 1) := sorry
theorem dX0_mountRibbon_2 : decode cX0_mountRibbon 2 = .ok (.aload_n 0, 1) := sorry
theorem dX0_mountRibbon_3 : decode cX0_mountRibbon 3 = .ok (.iload_n 1, 1) := sorry
theorem dX0_mountRibbon_4 : decode cX0_mountRibbon 4 = .ok (.invokevirtual 27, 3) := sorry
theorem dX0_mountRibbon_7 : decode cX0_mountRibbon 7 = .ok (.i2l, 1) := sorry
theorem dX0_mountRibbon_8 : decode cX0_mountRibbon 8 = .ok (.lastore, 1) := sorry
theorem dX0_mountRibbon_9 : decode cX0_mountRibbon 9 = .ok (.goto 6, 3) := sorry
theorem dX0_mountRibbon_12 : decode cX0_mountRibbon 12 = .ok (.astore_n 3, 1) := sorry
theorem dX0_mountRibbon_13 : decode cX0_mountRibbon 13 = .ok (.iconst 1, 1) := sorry
theorem dX0_mountRibbon_14 : decode cX0_mountRibbon 14 = .ok (.ireturn, 1) := sorry
theorem dX0_mountRibbon_15 : decode cX0_mountRibbon 15 = .ok (.iconst 0, 1) := sorry
theorem dX0_mountRibbon_16 : decode cX0_mountRibbon 16 = .ok (.ireturn, 1) := sorry
abbrev cX0_position : ByteArray := method_7_code
def yX0_position : MethodName := ⟨RX0, "position", "(LLabelDriver;[J)I"⟩
def dkwX0_position_0 : List UInt8 := [43, 3, 42, 182, 0, 31, 133, 80, 167, 0, 6, 77, 4, 172, 3, 172]
abbrev dktX0_position_0 : List UInt8 := dkwX0_position_0 ++ []
theorem dksX0_position_0 : cX0_position.data.toList.drop 0 = dktX0_position_0 := sorry
theorem dX0_position_0 : decode cX0_position 0 = .ok (.aload_n 1, 1) := sorry
theorem dX0_position_1 : decode cX0_position 1 = .ok (.iconst 0, 1) := sorry
theorem dX0_position_2 : decode cX0_position 2 = .ok (.aload_n 0, 1) := sorry
theorem dX0_position_3 : decode cX0_position 3 = .ok (.invokevirtual 31, 3) := sorry
theorem dX0_position_6 : decode cX0_position 6 = .ok (.i2l, 1) := sorry
theorem dX0_position_7 : decode cX0_position 7 = .ok (.lastore, 1) := sorry
theorem dX0_position_8 : decode cX0_position 8 = .ok (.goto 6, 3) := sorry
theorem dX0_position_11 : decode cX0_position 11 = .ok (.astore_n 2, 1) := sorry
theorem dX0_position_12 : decode cX0_position 12 = .ok (.iconst 1, 1) := sorry
theorem dX0_position_13 : decode cX0_position 13 = .ok (.ireturn, 1) := sorry
theorem dX0_position_14 : decode cX0_position 14 = .ok (.iconst 0, 1) := sorry
theorem dX0_position_15 : decode cX0_position 15 = .ok (.ireturn, 1) := sorry
abbrev cX0_webEnd : ByteArray := method_8_code
def yX0_webEnd : MethodName := ⟨RX0, "webEnd", "(LLabelDriver;[J)I"⟩
def dkwX0_webEnd_0 : List UInt8 := [43, 3, 42, 182, 0, 34, 133, 80, 167, 0, 6, 77, 4, 172, 3, 172]
abbrev dktX0_webEnd_0 : List UInt8 := dkwX0_webEnd_0 ++ []
theorem dksX0_webEnd_0 : cX0_webEnd.data.toList.drop 0 = dktX0_webEnd_0 := sorry
theorem dX0_webEnd_0 : decode cX0_webEnd 0 = .ok (.aload_n 1, 1) := sorry
theorem dX0_webEnd_1 : decode cX0_webEnd 1 = .ok (.iconst 0, 1) := sorry
theorem dX0_webEnd_2 : decode cX0_webEnd 2 = .ok (.aload_n 0, 1) := sorry
theorem dX0_webEnd_3 : decode cX0_webEnd 3 = .ok (.invokevirtual 34, 3) := sorry
theorem dX0_webEnd_6 : decode cX0_webEnd 6 = .ok (.i2l, 1) := sorry
theorem dX0_webEnd_7 : decode cX0_webEnd 7 = .ok (.lastore, 1) := sorry
theorem dX0_webEnd_8 : decode cX0_webEnd 8 = .ok (.goto 6, 3) := sorry
theorem dX0_webEnd_11 : decode cX0_webEnd 11 = .ok (.astore_n 2, 1) := sorry
theorem dX0_webEnd_12 : decode cX0_webEnd 12 = .ok (.iconst 1, 1) := sorry
theorem dX0_webEnd_13 : decode cX0_webEnd 13 = .ok (.ireturn, 1) := sorry
theorem dX0_webEnd_14 : decode cX0_webEnd 14 = .ok (.iconst 0, 1) := sorry
theorem dX0_webEnd_15 : decode cX0_webEnd 15 = .ok (.ireturn, 1) := sorry
abbrev cX0_labelBegin : ByteArray := method_9_code
def yX0_labelBegin : MethodName := ⟨RX0, "labelBegin", "(LLabelDriver;I[J)I"⟩
def dkwX0_labelBegin_0 : List UInt8 := [44, 3, 42, 27, 182, 0, 37, 133, 80, 167, 0, 9, 78, 4, 172, 78, 5, 172, 3, 172]
abbrev dktX0_labelBegin_0 : List UInt8 := dkwX0_labelBegin_0 ++ []
theorem dksX0_labelBegin_0 : cX0_labelBegin.data.toList.drop 0 = dktX0_labelBegin_0 := sorry
theorem dX0_labelBegin_0 : decode cX0_labelBegin 0 = .ok (.aload_n 2, 1) := sorry
theorem dX0_labelBegin_1 : decode cX0_labelBegin 1 = .ok (.iconst 0, 1) := sorry
theorem dX0_labelBegin_2 : decode cX0_labelBegin 2 = .ok (.aload_n 0, 1) := sorry
theorem dX0_labelBegin_3 : decode cX0_labelBegin 3 = .ok (.iload_n 1, 1) := sorry
theorem dX0_labelBegin_4 : decode cX0_labelBegin 4 = .ok (.invokevirtual 37, 3) := sorry
theorem dX0_labelBegin_7 : decode cX0_labelBegin 7 = .ok (.i2l, 1) := sorry
theorem dX0_labelBegin_8 : decode cX0_labelBegin 8 = .ok (.lastore, 1) := sorry
theorem dX0_labelBegin_9 : decode cX0_labelBegin 9 = .ok (.goto 9, 3) := sorry
theorem dX0_labelBegin_12 : decode cX0_labelBegin 12 = .ok (.astore_n 3, 1) := sorry
theorem dX0_labelBegin_13 : decode cX0_labelBegin 13 = .ok (.iconst 1, 1) := sorry
theorem dX0_labelBegin_14 : decode cX0_labelBegin 14 = .ok (.ireturn, 1) := sorry
theorem dX0_labelBegin_15 : decode cX0_labelBegin 15 = .ok (.astore_n 3, 1) := sorry
theorem dX0_labelBegin_16 : decode cX0_labelBegin 16 = .ok (.iconst 2, 1) := sorry
theorem dX0_labelBegin_17 : decode cX0_labelBegin 17 = .ok (.ireturn, 1) := sorry
theorem dX0_labelBegin_18 : decode cX0_labelBegin 18 = .ok (.iconst 0, 1) := sorry
theorem dX0_labelBegin_19 : decode cX0_labelBegin 19 = .ok (.ireturn, 1) := sorry
abbrev cX0_lightAt : ByteArray := method_10_code
def yX0_lightAt : MethodName := ⟨RX0, "lightAt", "(LLabelDriver;I[J)I"⟩
def dkwX0_lightAt_0 : List UInt8 := [44, 3, 42, 27, 182, 0, 40, 133, 80, 167, 0, 6, 78, 4, 172, 3, 172]
abbrev dktX0_lightAt_0 : List UInt8 := dkwX0_lightAt_0 ++ []
theorem dksX0_lightAt_0 : cX0_lightAt.data.toList.drop 0 = dktX0_lightAt_0 := sorry
theorem dX0_lightAt_0 : decode cX0_lightAt 0 = .ok (.aload_n 2, 1) := sorry
theorem dX0_lightAt_1 : decode cX0_lightAt 1 = .ok (.iconst 0, 1) := sorry
theorem dX0_lightAt_2 : decode cX0_lightAt 2 = .ok (.aload_n 0, 1) := sorry
theorem dX0_lightAt_3 : decode cX0_lightAt 3 = .ok (.iload_n 1, 1) := sorry
theorem dX0_lightAt_4 : decode cX0_lightAt 4 = .ok (.invokevirtual 40, 3) := sorry
theorem dX0_lightAt_7 : decode cX0_lightAt 7 = .ok (.i2l, 1) := sorry
theorem dX0_lightAt_8 : decode cX0_lightAt 8 = .ok (.lastore, 1) := sorry
theorem dX0_lightAt_9 : decode cX0_lightAt 9 = .ok (.goto 6, 3) := sorry
theorem dX0_lightAt_12 : decode cX0_lightAt 12 = .ok (.astore_n 3, 1) := sorry
theorem dX0_lightAt_13 : decode cX0_lightAt 13 = .ok (.iconst 1, 1) := sorry
theorem dX0_lightAt_14 : decode cX0_lightAt 14 = .ok (.ireturn, 1) := sorry
theorem dX0_lightAt_15 : decode cX0_lightAt 15 = .ok (.iconst 0, 1) := sorry
theorem dX0_lightAt_16 : decode cX0_lightAt 16 = .ok (.ireturn, 1) := sorry
abbrev cX0_labelUnderHead : ByteArray := method_11_code
def yX0_labelUnderHead : MethodName := ⟨RX0, "labelUnderHead", "(LLabelDriver;[J)I"⟩
def dkwX0_labelUnderHead_0 : List UInt8 := [43, 3, 42, 182, 0, 43, 133, 80, 167, 0, 6, 77, 4, 172, 3, 172]
abbrev dktX0_labelUnderHead_0 : List UInt8 := dkwX0_labelUnderHead_0 ++ []
theorem dksX0_labelUnderHead_0 : cX0_labelUnderHead.data.toList.drop 0 = dktX0_labelUnderHead_0 := sorry
theorem dX0_labelUnderHead_0 : decode cX0_labelUnderHead 0 = .ok (.aload_n 1, 1) := sorry
theorem dX0_labelUnderHead_1 : decode cX0_labelUnderHead 1 = .ok (.iconst 0, 1) := sorry
theorem dX0_labelUnderHead_2 : decode cX0_labelUnderHead 2 = .ok (.aload_n 0, 1) := sorry
theorem dX0_labelUnderHead_3 : decode cX0_labelUnderHead 3 = .ok (.invokevirtual 43, 3) := sorry
theorem dX0_labelUnderHead_6 : decode cX0_labelUnderHead 6 = .ok (.i2l, 1) := sorry
theorem dX0_labelUnderHead_7 : decode cX0_labelUnderHead 7 = .ok (.lastore, 1) := sorry
theorem dX0_labelUnderHead_8 : decode cX0_labelUnderHead 8 = .ok (.goto 6, 3) := sorry
theorem dX0_labelUnderHead_11 : decode cX0_labelUnderHead 11 = .ok (.astore_n 2, 1) := sorry
theorem dX0_labelUnderHead_12 : decode cX0_labelUnderHead 12 = .ok (.iconst 1, 1) := sorry
theorem dX0_labelUnderHead_13 : decode cX0_labelUnderHead 13 = .ok (.ireturn, 1) := sorry
theorem dX0_labelUnderHead_14 : decode cX0_labelUnderHead 14 = .ok (.iconst 0, 1) := sorry
theorem dX0_labelUnderHead_15 : decode cX0_labelUnderHead 15 = .ok (.ireturn, 1) := sorry
abbrev cX0_feed : ByteArray := method_12_code
def yX0_feed : MethodName := ⟨RX0, "feed", "(LLabelDriver;I[J)I"⟩
def dkwX0_feed_0 : List UInt8 := [44, 3, 42, 27, 182, 0, 46, 133, 80, 167, 0, 9, 78, 4, 172, 78, 5, 172, 3, 172]
abbrev dktX0_feed_0 : List UInt8 := dkwX0_feed_0 ++ []
theorem dksX0_feed_0 : cX0_feed.data.toList.drop 0 = dktX0_feed_0 := sorry
theorem dX0_feed_0 : decode cX0_feed 0 = .ok (.aload_n 2, 1) := sorry
theorem dX0_feed_1 : decode cX0_feed 1 = .ok (.iconst 0, 1) := sorry
theorem dX0_feed_2 : decode cX0_feed 2 = .ok (.aload_n 0, 1) := sorry
theorem dX0_feed_3 : decode cX0_feed 3 = .ok (.iload_n 1, 1) := sorry
theorem dX0_feed_4 : decode cX0_feed 4 = .ok (.invokevirtual 46, 3) := sorry
theorem dX0_feed_7 : decode cX0_feed 7 = .ok (.i2l, 1) := sorry
theorem dX0_feed_8 : decode cX0_feed 8 = .ok (.lastore, 1) := sorry
theorem dX0_feed_9 : decode cX0_feed 9 = .ok (.goto 9, 3) := sorry
theorem dX0_feed_12 : decode cX0_feed 12 = .ok (.astore_n 3, 1) := sorry
theorem dX0_feed_13 : decode cX0_feed 13 = .ok (.iconst 1, 1) := sorry
theorem dX0_feed_14 : decode cX0_feed 14 = .ok (.ireturn, 1) := sorry
theorem dX0_feed_15 : decode cX0_feed 15 = .ok (.astore_n 3, 1) := sorry
theorem dX0_feed_16 : decode cX0_feed 16 = .ok (.iconst 2, 1) := sorry
theorem dX0_feed_17 : decode cX0_feed 17 = .ok (.ireturn, 1) := sorry
theorem dX0_feed_18 : decode cX0_feed 18 = .ok (.iconst 0, 1) := sorry
theorem dX0_feed_19 : decode cX0_feed 19 = .ok (.ireturn, 1) := sorry
abbrev cX0_feedToForm : ByteArray := method_13_code
def yX0_feedToForm : MethodName := ⟨RX0, "feedToForm", "(LLabelDriver;[J)I"⟩
def dkwX0_feedToForm_0 : List UInt8 := [43, 3, 42, 182, 0, 49, 133, 80, 167, 0, 6, 77, 4, 172, 3, 172]
abbrev dktX0_feedToForm_0 : List UInt8 := dkwX0_feedToForm_0 ++ []
theorem dksX0_feedToForm_0 : cX0_feedToForm.data.toList.drop 0 = dktX0_feedToForm_0 := sorry
theorem dX0_feedToForm_0 : decode cX0_feedToForm 0 = .ok (.aload_n 1, 1) := sorry
theorem dX0_feedToForm_1 : decode cX0_feedToForm 1 = .ok (.iconst 0, 1) := sorry
theorem dX0_feedToForm_2 : decode cX0_feedToForm 2 = .ok (.aload_n 0, 1) := sorry
theorem dX0_feedToForm_3 : decode cX0_feedToForm 3 = .ok (.invokevirtual 49, 3) := sorry
theorem dX0_feedToForm_6 : decode cX0_feedToForm 6 = .ok (.i2l, 1) := sorry
theorem dX0_feedToForm_7 : decode cX0_feedToForm 7 = .ok (.lastore, 1) := sorry
theorem dX0_feedToForm_8 : decode cX0_feedToForm 8 = .ok (.goto 6, 3) := sorry
theorem dX0_feedToForm_11 : decode cX0_feedToForm 11 = .ok (.astore_n 2, 1) := sorry
theorem dX0_feedToForm_12 : decode cX0_feedToForm 12 = .ok (.iconst 1, 1) := sorry
theorem dX0_feedToForm_13 : decode cX0_feedToForm 13 = .ok (.ireturn, 1) := sorry
theorem dX0_feedToForm_14 : decode cX0_feedToForm 14 = .ok (.iconst 0, 1) := sorry
theorem dX0_feedToForm_15 : decode cX0_feedToForm 15 = .ok (.ireturn, 1) := sorry
abbrev cX0_learn : ByteArray := method_14_code
def yX0_learn : MethodName := ⟨RX0, "learn", "(LLabelDriver;[J)I"⟩
def dkwX0_learn_0 : List UInt8 := [43, 3, 42, 182, 0, 52, 133, 80, 167, 0, 6, 77, 4, 172, 3, 172]
abbrev dktX0_learn_0 : List UInt8 := dkwX0_learn_0 ++ []
theorem dksX0_learn_0 : cX0_learn.data.toList.drop 0 = dktX0_learn_0 := sorry
theorem dX0_learn_0 : decode cX0_learn 0 = .ok (.aload_n 1, 1) := sorry
theorem dX0_learn_1 : decode cX0_learn 1 = .ok (.iconst 0, 1) := sorry
theorem dX0_learn_2 : decode cX0_learn 2 = .ok (.aload_n 0, 1) := sorry
theorem dX0_learn_3 : decode cX0_learn 3 = .ok (.invokevirtual 52, 3) := sorry
theorem dX0_learn_6 : decode cX0_learn 6 = .ok (.i2l, 1) := sorry
theorem dX0_learn_7 : decode cX0_learn 7 = .ok (.lastore, 1) := sorry
theorem dX0_learn_8 : decode cX0_learn 8 = .ok (.goto 6, 3) := sorry
theorem dX0_learn_11 : decode cX0_learn 11 = .ok (.astore_n 2, 1) := sorry
theorem dX0_learn_12 : decode cX0_learn 12 = .ok (.iconst 1, 1) := sorry
theorem dX0_learn_13 : decode cX0_learn 13 = .ok (.ireturn, 1) := sorry
theorem dX0_learn_14 : decode cX0_learn 14 = .ok (.iconst 0, 1) := sorry
theorem dX0_learn_15 : decode cX0_learn 15 = .ok (.ireturn, 1) := sorry
abbrev cX0_learned : ByteArray := method_15_code
def yX0_learned : MethodName := ⟨RX0, "learned", "(LLabelDriver;I[J)I"⟩
def dkwX0_learned_0 : List UInt8 := [44, 3, 42, 27, 182, 0, 55, 133, 80, 167, 0, 9, 78, 4, 172, 78, 5, 172, 3, 172]
abbrev dktX0_learned_0 : List UInt8 := dkwX0_learned_0 ++ []
theorem dksX0_learned_0 : cX0_learned.data.toList.drop 0 = dktX0_learned_0 := sorry
theorem dX0_learned_0 : decode cX0_learned 0 = .ok (.aload_n 2, 1) := sorry
theorem dX0_learned_1 : decode cX0_learned 1 = .ok (.iconst 0, 1) := sorry
theorem dX0_learned_2 : decode cX0_learned 2 = .ok (.aload_n 0, 1) := sorry
theorem dX0_learned_3 : decode cX0_learned 3 = .ok (.iload_n 1, 1) := sorry
theorem dX0_learned_4 : decode cX0_learned 4 = .ok (.invokevirtual 55, 3) := sorry
theorem dX0_learned_7 : decode cX0_learned 7 = .ok (.i2l, 1) := sorry
theorem dX0_learned_8 : decode cX0_learned 8 = .ok (.lastore, 1) := sorry
theorem dX0_learned_9 : decode cX0_learned 9 = .ok (.goto 9, 3) := sorry
theorem dX0_learned_12 : decode cX0_learned 12 = .ok (.astore_n 3, 1) := sorry
theorem dX0_learned_13 : decode cX0_learned 13 = .ok (.iconst 1, 1) := sorry
theorem dX0_learned_14 : decode cX0_learned 14 = .ok (.ireturn, 1) := sorry
theorem dX0_learned_15 : decode cX0_learned 15 = .ok (.astore_n 3, 1) := sorry
theorem dX0_learned_16 : decode cX0_learned 16 = .ok (.iconst 2, 1) := sorry
theorem dX0_learned_17 : decode cX0_learned 17 = .ok (.ireturn, 1) := sorry
theorem dX0_learned_18 : decode cX0_learned 18 = .ok (.iconst 0, 1) := sorry
theorem dX0_learned_19 : decode cX0_learned 19 = .ok (.ireturn, 1) := sorry
abbrev cX0_gapsSeen : ByteArray := method_16_code
def yX0_gapsSeen : MethodName := ⟨RX0, "gapsSeen", "(LLabelDriver;[J)I"⟩
def dkwX0_gapsSeen_0 : List UInt8 := [43, 3, 42, 182, 0, 60, 133, 80, 167, 0, 6, 77, 4, 172, 3, 172]
abbrev dktX0_gapsSeen_0 : List UInt8 := dkwX0_gapsSeen_0 ++ []
theorem dksX0_gapsSeen_0 : cX0_gapsSeen.data.toList.drop 0 = dktX0_gapsSeen_0 := sorry
theorem dX0_gapsSeen_0 : decode cX0_gapsSeen 0 = .ok (.aload_n 1, 1) := sorry
theorem dX0_gapsSeen_1 : decode cX0_gapsSeen 1 = .ok (.iconst 0, 1) := sorry
theorem dX0_gapsSeen_2 : decode cX0_gapsSeen 2 = .ok (.aload_n 0, 1) := sorry
theorem dX0_gapsSeen_3 : decode cX0_gapsSeen 3 = .ok (.invokevirtual 60, 3) := sorry
theorem dX0_gapsSeen_6 : decode cX0_gapsSeen 6 = .ok (.i2l, 1) := sorry
theorem dX0_gapsSeen_7 : decode cX0_gapsSeen 7 = .ok (.lastore, 1) := sorry
theorem dX0_gapsSeen_8 : decode cX0_gapsSeen 8 = .ok (.goto 6, 3) := sorry
theorem dX0_gapsSeen_11 : decode cX0_gapsSeen 11 = .ok (.astore_n 2, 1) := sorry
theorem dX0_gapsSeen_12 : decode cX0_gapsSeen 12 = .ok (.iconst 1, 1) := sorry
theorem dX0_gapsSeen_13 : decode cX0_gapsSeen 13 = .ok (.ireturn, 1) := sorry
theorem dX0_gapsSeen_14 : decode cX0_gapsSeen 14 = .ok (.iconst 0, 1) := sorry
theorem dX0_gapsSeen_15 : decode cX0_gapsSeen 15 = .ok (.ireturn, 1) := sorry
abbrev cX0_seenTo : ByteArray := method_17_code
def yX0_seenTo : MethodName := ⟨RX0, "seenTo", "(LLabelDriver;[J)I"⟩
def dkwX0_seenTo_0 : List UInt8 := [43, 3, 42, 182, 0, 63, 133, 80, 167, 0, 6, 77, 4, 172, 3, 172]
abbrev dktX0_seenTo_0 : List UInt8 := dkwX0_seenTo_0 ++ []
theorem dksX0_seenTo_0 : cX0_seenTo.data.toList.drop 0 = dktX0_seenTo_0 := sorry
theorem dX0_seenTo_0 : decode cX0_seenTo 0 = .ok (.aload_n 1, 1) := sorry
theorem dX0_seenTo_1 : decode cX0_seenTo 1 = .ok (.iconst 0, 1) := sorry
theorem dX0_seenTo_2 : decode cX0_seenTo 2 = .ok (.aload_n 0, 1) := sorry
theorem dX0_seenTo_3 : decode cX0_seenTo 3 = .ok (.invokevirtual 63, 3) := sorry
theorem dX0_seenTo_6 : decode cX0_seenTo 6 = .ok (.i2l, 1) := sorry
theorem dX0_seenTo_7 : decode cX0_seenTo 7 = .ok (.lastore, 1) := sorry
theorem dX0_seenTo_8 : decode cX0_seenTo 8 = .ok (.goto 6, 3) := sorry
theorem dX0_seenTo_11 : decode cX0_seenTo 11 = .ok (.astore_n 2, 1) := sorry
theorem dX0_seenTo_12 : decode cX0_seenTo 12 = .ok (.iconst 1, 1) := sorry
theorem dX0_seenTo_13 : decode cX0_seenTo 13 = .ok (.ireturn, 1) := sorry
theorem dX0_seenTo_14 : decode cX0_seenTo 14 = .ok (.iconst 0, 1) := sorry
theorem dX0_seenTo_15 : decode cX0_seenTo 15 = .ok (.ireturn, 1) := sorry
abbrev cX0_backfeed : ByteArray := method_18_code
def yX0_backfeed : MethodName := ⟨RX0, "backfeed", "(LLabelDriver;[J)I"⟩
def dkwX0_backfeed_0 : List UInt8 := [43, 3, 42, 182, 0, 66, 133, 80, 167, 0, 6, 77, 4, 172, 3, 172]
abbrev dktX0_backfeed_0 : List UInt8 := dkwX0_backfeed_0 ++ []
theorem dksX0_backfeed_0 : cX0_backfeed.data.toList.drop 0 = dktX0_backfeed_0 := sorry
theorem dX0_backfeed_0 : decode cX0_backfeed 0 = .ok (.aload_n 1, 1) := sorry
theorem dX0_backfeed_1 : decode cX0_backfeed 1 = .ok (.iconst 0, 1) := sorry
theorem dX0_backfeed_2 : decode cX0_backfeed 2 = .ok (.aload_n 0, 1) := sorry
theorem dX0_backfeed_3 : decode cX0_backfeed 3 = .ok (.invokevirtual 66, 3) := sorry
theorem dX0_backfeed_6 : decode cX0_backfeed 6 = .ok (.i2l, 1) := sorry
theorem dX0_backfeed_7 : decode cX0_backfeed 7 = .ok (.lastore, 1) := sorry
theorem dX0_backfeed_8 : decode cX0_backfeed 8 = .ok (.goto 6, 3) := sorry
theorem dX0_backfeed_11 : decode cX0_backfeed 11 = .ok (.astore_n 2, 1) := sorry
theorem dX0_backfeed_12 : decode cX0_backfeed 12 = .ok (.iconst 1, 1) := sorry
theorem dX0_backfeed_13 : decode cX0_backfeed 13 = .ok (.ireturn, 1) := sorry
theorem dX0_backfeed_14 : decode cX0_backfeed 14 = .ok (.iconst 0, 1) := sorry
theorem dX0_backfeed_15 : decode cX0_backfeed 15 = .ok (.ireturn, 1) := sorry
abbrev cX0_nextGap : ByteArray := method_19_code
def yX0_nextGap : MethodName := ⟨RX0, "nextGap", "(LLabelDriver;I[J)I"⟩
def dkwX0_nextGap_0 : List UInt8 := [44, 3, 42, 27, 182, 0, 69, 133, 80, 167, 0, 6, 78, 4, 172, 3, 172]
abbrev dktX0_nextGap_0 : List UInt8 := dkwX0_nextGap_0 ++ []
theorem dksX0_nextGap_0 : cX0_nextGap.data.toList.drop 0 = dktX0_nextGap_0 := sorry
theorem dX0_nextGap_0 : decode cX0_nextGap 0 = .ok (.aload_n 2, 1) := sorry
theorem dX0_nextGap_1 : decode cX0_nextGap 1 = .ok (.iconst 0, 1) := sorry
theorem dX0_nextGap_2 : decode cX0_nextGap 2 = .ok (.aload_n 0, 1) := sorry
theorem dX0_nextGap_3 : decode cX0_nextGap 3 = .ok (.iload_n 1, 1) := sorry
theorem dX0_nextGap_4 : decode cX0_nextGap 4 = .ok (.invokevirtual 69, 3) := sorry
theorem dX0_nextGap_7 : decode cX0_nextGap 7 = .ok (.i2l, 1) := sorry
theorem dX0_nextGap_8 : decode cX0_nextGap 8 = .ok (.lastore, 1) := sorry
theorem dX0_nextGap_9 : decode cX0_nextGap 9 = .ok (.goto 6, 3) := sorry
theorem dX0_nextGap_12 : decode cX0_nextGap 12 = .ok (.astore_n 3, 1) := sorry
theorem dX0_nextGap_13 : decode cX0_nextGap 13 = .ok (.iconst 1, 1) := sorry
theorem dX0_nextGap_14 : decode cX0_nextGap 14 = .ok (.ireturn, 1) := sorry
theorem dX0_nextGap_15 : decode cX0_nextGap 15 = .ok (.iconst 0, 1) := sorry
theorem dX0_nextGap_16 : decode cX0_nextGap 16 = .ok (.ireturn, 1) := sorry
abbrev cX0_tearPlace : ByteArray := method_20_code
def yX0_tearPlace : MethodName := ⟨RX0, "tearPlace", "(LLabelDriver;[J)I"⟩
def dkwX0_tearPlace_0 : List UInt8 := [43, 3, 42, 182, 0, 72, 133, 80, 167, 0, 6, 77, 4, 172, 3, 172]
abbrev dktX0_tearPlace_0 : List UInt8 := dkwX0_tearPlace_0 ++ []
theorem dksX0_tearPlace_0 : cX0_tearPlace.data.toList.drop 0 = dktX0_tearPlace_0 := sorry
theorem dX0_tearPlace_0 : decode cX0_tearPlace 0 = .ok (.aload_n 1, 1) := sorry
theorem dX0_tearPlace_1 : decode cX0_tearPlace 1 = .ok (.iconst 0, 1) := sorry
theorem dX0_tearPlace_2 : decode cX0_tearPlace 2 = .ok (.aload_n 0, 1) := sorry
theorem dX0_tearPlace_3 : decode cX0_tearPlace 3 = .ok (.invokevirtual 72, 3) := sorry
theorem dX0_tearPlace_6 : decode cX0_tearPlace 6 = .ok (.i2l, 1) := sorry
theorem dX0_tearPlace_7 : decode cX0_tearPlace 7 = .ok (.lastore, 1) := sorry
theorem dX0_tearPlace_8 : decode cX0_tearPlace 8 = .ok (.goto 6, 3) := sorry
theorem dX0_tearPlace_11 : decode cX0_tearPlace 11 = .ok (.astore_n 2, 1) := sorry
theorem dX0_tearPlace_12 : decode cX0_tearPlace 12 = .ok (.iconst 1, 1) := sorry
theorem dX0_tearPlace_13 : decode cX0_tearPlace 13 = .ok (.ireturn, 1) := sorry
theorem dX0_tearPlace_14 : decode cX0_tearPlace 14 = .ok (.iconst 0, 1) := sorry
theorem dX0_tearPlace_15 : decode cX0_tearPlace 15 = .ok (.ireturn, 1) := sorry
abbrev cX0_batchField : ByteArray := method_21_code
def yX0_batchField : MethodName := ⟨RX0, "batchField", "(LLabelDriver;II[J)I"⟩
def dkwX0_batchField_0 : List UInt8 := [45, 3, 42, 27, 28, 182, 0, 75, 133, 80, 167, 0, 11, 58, 4, 4, 172, 58, 4, 5, 172, 3, 172]
abbrev dktX0_batchField_0 : List UInt8 := dkwX0_batchField_0 ++ []
theorem dksX0_batchField_0 : cX0_batchField.data.toList.drop 0 = dktX0_batchField_0 := sorry
theorem dX0_batchField_0 : decode cX0_batchField 0 = .ok (.aload_n 3, 1) := sorry
theorem dX0_batchField_1 : decode cX0_batchField 1 = .ok (.iconst 0, 1) := sorry
theorem dX0_batchField_2 : decode cX0_batchField 2 = .ok (.aload_n 0, 1) := sorry
theorem dX0_batchField_3 : decode cX0_batchField 3 = .ok (.iload_n 1, 1) := sorry
theorem dX0_batchField_4 : decode cX0_batchField 4 = .ok (.iload_n 2, 1) := sorry
theorem dX0_batchField_5 : decode cX0_batchField 5 = .ok (.invokevirtual 75, 3) := sorry
theorem dX0_batchField_8 : decode cX0_batchField 8 = .ok (.i2l, 1) := sorry
theorem dX0_batchField_9 : decode cX0_batchField 9 = .ok (.lastore, 1) := sorry
theorem dX0_batchField_10 : decode cX0_batchField 10 = .ok (.goto 11, 3) := sorry
theorem dX0_batchField_13 : decode cX0_batchField 13 = .ok (.astore 4, 2) := sorry
theorem dX0_batchField_15 : decode cX0_batchField 15 = .ok (.iconst 1, 1) := sorry
theorem dX0_batchField_16 : decode cX0_batchField 16 = .ok (.ireturn, 1) := sorry
theorem dX0_batchField_17 : decode cX0_batchField 17 = .ok (.astore 4, 2) := sorry
theorem dX0_batchField_19 : decode cX0_batchField 19 = .ok (.iconst 2, 1) := sorry
theorem dX0_batchField_20 : decode cX0_batchField 20 = .ok (.ireturn, 1) := sorry
theorem dX0_batchField_21 : decode cX0_batchField 21 = .ok (.iconst 0, 1) := sorry
theorem dX0_batchField_22 : decode cX0_batchField 22 = .ok (.ireturn, 1) := sorry
abbrev cX0_number : ByteArray := method_22_code
def yX0_number : MethodName := ⟨RX0, "number", "(LLabelDriver;II[J)I"⟩
def dkwX0_number_0 : List UInt8 := [45, 3, 42, 27, 28, 182, 0, 78, 133, 80, 167, 0, 7, 58, 4, 4, 172, 3, 172]
abbrev dktX0_number_0 : List UInt8 := dkwX0_number_0 ++ []
theorem dksX0_number_0 : cX0_number.data.toList.drop 0 = dktX0_number_0 := sorry
theorem dX0_number_0 : decode cX0_number 0 = .ok (.aload_n 3, 1) := sorry
theorem dX0_number_1 : decode cX0_number 1 = .ok (.iconst 0, 1) := sorry
theorem dX0_number_2 : decode cX0_number 2 = .ok (.aload_n 0, 1) := sorry
theorem dX0_number_3 : decode cX0_number 3 = .ok (.iload_n 1, 1) := sorry
theorem dX0_number_4 : decode cX0_number 4 = .ok (.iload_n 2, 1) := sorry
theorem dX0_number_5 : decode cX0_number 5 = .ok (.invokevirtual 78, 3) := sorry
theorem dX0_number_8 : decode cX0_number 8 = .ok (.i2l, 1) := sorry
theorem dX0_number_9 : decode cX0_number 9 = .ok (.lastore, 1) := sorry
theorem dX0_number_10 : decode cX0_number 10 = .ok (.goto 7, 3) := sorry
theorem dX0_number_13 : decode cX0_number 13 = .ok (.astore 4, 2) := sorry
theorem dX0_number_15 : decode cX0_number 15 = .ok (.iconst 1, 1) := sorry
theorem dX0_number_16 : decode cX0_number 16 = .ok (.ireturn, 1) := sorry
theorem dX0_number_17 : decode cX0_number 17 = .ok (.iconst 0, 1) := sorry
theorem dX0_number_18 : decode cX0_number 18 = .ok (.ireturn, 1) := sorry
abbrev cX0_checkDigit : ByteArray := method_23_code
def yX0_checkDigit : MethodName := ⟨RX0, "checkDigit", "(LLabelDriver;II[J)I"⟩
def dkwX0_checkDigit_0 : List UInt8 := [45, 3, 42, 27, 28, 182, 0, 81, 133, 80, 167, 0, 7, 58, 4, 4, 172, 3, 172]
abbrev dktX0_checkDigit_0 : List UInt8 := dkwX0_checkDigit_0 ++ []
theorem dksX0_checkDigit_0 : cX0_checkDigit.data.toList.drop 0 = dktX0_checkDigit_0 := sorry
theorem dX0_checkDigit_0 : decode cX0_checkDigit 0 = .ok (.aload_n 3, 1) := sorry
theorem dX0_checkDigit_1 : decode cX0_checkDigit 1 = .ok (.iconst 0, 1) := sorry
theorem dX0_checkDigit_2 : decode cX0_checkDigit 2 = .ok (.aload_n 0, 1) := sorry
theorem dX0_checkDigit_3 : decode cX0_checkDigit 3 = .ok (.iload_n 1, 1) := sorry
theorem dX0_checkDigit_4 : decode cX0_checkDigit 4 = .ok (.iload_n 2, 1) := sorry
theorem dX0_checkDigit_5 : decode cX0_checkDigit 5 = .ok (.invokevirtual 81, 3) := sorry
theorem dX0_checkDigit_8 : decode cX0_checkDigit 8 = .ok (.i2l, 1) := sorry
theorem dX0_checkDigit_9 : decode cX0_checkDigit 9 = .ok (.lastore, 1) := sorry
theorem dX0_checkDigit_10 : decode cX0_checkDigit 10 = .ok (.goto 7, 3) := sorry
theorem dX0_checkDigit_13 : decode cX0_checkDigit 13 = .ok (.astore 4, 2) := sorry
theorem dX0_checkDigit_15 : decode cX0_checkDigit 15 = .ok (.iconst 1, 1) := sorry
theorem dX0_checkDigit_16 : decode cX0_checkDigit 16 = .ok (.ireturn, 1) := sorry
theorem dX0_checkDigit_17 : decode cX0_checkDigit 17 = .ok (.iconst 0, 1) := sorry
theorem dX0_checkDigit_18 : decode cX0_checkDigit 18 = .ok (.ireturn, 1) := sorry
abbrev cX0_stateOf : ByteArray := method_24_code
def yX0_stateOf : MethodName := ⟨RX0, "stateOf", "(LLabelDriver;II[J)I"⟩
def dkwX0_stateOf_0 : List UInt8 := [45, 3, 42, 27, 28, 182, 0, 84, 133, 80, 167, 0, 7, 58, 4, 4, 172, 3, 172]
abbrev dktX0_stateOf_0 : List UInt8 := dkwX0_stateOf_0 ++ []
theorem dksX0_stateOf_0 : cX0_stateOf.data.toList.drop 0 = dktX0_stateOf_0 := sorry
theorem dX0_stateOf_0 : decode cX0_stateOf 0 = .ok (.aload_n 3, 1) := sorry
theorem dX0_stateOf_1 : decode cX0_stateOf 1 = .ok (.iconst 0, 1) := sorry
theorem dX0_stateOf_2 : decode cX0_stateOf 2 = .ok (.aload_n 0, 1) := sorry
theorem dX0_stateOf_3 : decode cX0_stateOf 3 = .ok (.iload_n 1, 1) := sorry
theorem dX0_stateOf_4 : decode cX0_stateOf 4 = .ok (.iload_n 2, 1) := sorry
theorem dX0_stateOf_5 : decode cX0_stateOf 5 = .ok (.invokevirtual 84, 3) := sorry
theorem dX0_stateOf_8 : decode cX0_stateOf 8 = .ok (.i2l, 1) := sorry
theorem dX0_stateOf_9 : decode cX0_stateOf 9 = .ok (.lastore, 1) := sorry
theorem dX0_stateOf_10 : decode cX0_stateOf 10 = .ok (.goto 7, 3) := sorry
theorem dX0_stateOf_13 : decode cX0_stateOf 13 = .ok (.astore 4, 2) := sorry
theorem dX0_stateOf_15 : decode cX0_stateOf 15 = .ok (.iconst 1, 1) := sorry
theorem dX0_stateOf_16 : decode cX0_stateOf 16 = .ok (.ireturn, 1) := sorry
theorem dX0_stateOf_17 : decode cX0_stateOf 17 = .ok (.iconst 0, 1) := sorry
theorem dX0_stateOf_18 : decode cX0_stateOf 18 = .ok (.ireturn, 1) := sorry
abbrev cX0_attempts : ByteArray := method_25_code
def yX0_attempts : MethodName := ⟨RX0, "attempts", "(LLabelDriver;II[J)I"⟩
def dkwX0_attempts_0 : List UInt8 := [45, 3, 42, 27, 28, 182, 0, 87, 133, 80, 167, 0, 7, 58, 4, 4, 172, 3, 172]
abbrev dktX0_attempts_0 : List UInt8 := dkwX0_attempts_0 ++ []
theorem dksX0_attempts_0 : cX0_attempts.data.toList.drop 0 = dktX0_attempts_0 := sorry
theorem dX0_attempts_0 : decode cX0_attempts 0 = .ok (.aload_n 3, 1) := sorry
theorem dX0_attempts_1 : decode cX0_attempts 1 = .ok (.iconst 0, 1) := sorry
theorem dX0_attempts_2 : decode cX0_attempts 2 = .ok (.aload_n 0, 1) := sorry
theorem dX0_attempts_3 : decode cX0_attempts 3 = .ok (.iload_n 1, 1) := sorry
theorem dX0_attempts_4 : decode cX0_attempts 4 = .ok (.iload_n 2, 1) := sorry
theorem dX0_attempts_5 : decode cX0_attempts 5 = .ok (.invokevirtual 87, 3) := sorry
theorem dX0_attempts_8 : decode cX0_attempts 8 = .ok (.i2l, 1) := sorry
theorem dX0_attempts_9 : decode cX0_attempts 9 = .ok (.lastore, 1) := sorry
theorem dX0_attempts_10 : decode cX0_attempts 10 = .ok (.goto 7, 3) := sorry
theorem dX0_attempts_13 : decode cX0_attempts 13 = .ok (.astore 4, 2) := sorry
theorem dX0_attempts_15 : decode cX0_attempts 15 = .ok (.iconst 1, 1) := sorry
theorem dX0_attempts_16 : decode cX0_attempts 16 = .ok (.ireturn, 1) := sorry
theorem dX0_attempts_17 : decode cX0_attempts 17 = .ok (.iconst 0, 1) := sorry
theorem dX0_attempts_18 : decode cX0_attempts 18 = .ok (.ireturn, 1) := sorry
abbrev cX0_countOf : ByteArray := method_26_code
def yX0_countOf : MethodName := ⟨RX0, "countOf", "(LLabelDriver;II[J)I"⟩
def dkwX0_countOf_0 : List UInt8 := [45, 3, 42, 27, 28, 182, 0, 90, 133, 80, 167, 0, 11, 58, 4, 4, 172, 58, 4, 5, 172, 3, 172]
abbrev dktX0_countOf_0 : List UInt8 := dkwX0_countOf_0 ++ []
theorem dksX0_countOf_0 : cX0_countOf.data.toList.drop 0 = dktX0_countOf_0 := sorry
theorem dX0_countOf_0 : decode cX0_countOf 0 = .ok (.aload_n 3, 1) := sorry
theorem dX0_countOf_1 : decode cX0_countOf 1 = .ok (.iconst 0, 1) := sorry
theorem dX0_countOf_2 : decode cX0_countOf 2 = .ok (.aload_n 0, 1) := sorry
theorem dX0_countOf_3 : decode cX0_countOf 3 = .ok (.iload_n 1, 1) := sorry
theorem dX0_countOf_4 : decode cX0_countOf 4 = .ok (.iload_n 2, 1) := sorry
theorem dX0_countOf_5 : decode cX0_countOf 5 = .ok (.invokevirtual 90, 3) := sorry
theorem dX0_countOf_8 : decode cX0_countOf 8 = .ok (.i2l, 1) := sorry
theorem dX0_countOf_9 : decode cX0_countOf 9 = .ok (.lastore, 1) := sorry
theorem dX0_countOf_10 : decode cX0_countOf 10 = .ok (.goto 11, 3) := sorry
theorem dX0_countOf_13 : decode cX0_countOf 13 = .ok (.astore 4, 2) := sorry
theorem dX0_countOf_15 : decode cX0_countOf 15 = .ok (.iconst 1, 1) := sorry
theorem dX0_countOf_16 : decode cX0_countOf 16 = .ok (.ireturn, 1) := sorry
theorem dX0_countOf_17 : decode cX0_countOf 17 = .ok (.astore 4, 2) := sorry
theorem dX0_countOf_19 : decode cX0_countOf 19 = .ok (.iconst 2, 1) := sorry
theorem dX0_countOf_20 : decode cX0_countOf 20 = .ok (.ireturn, 1) := sorry
theorem dX0_countOf_21 : decode cX0_countOf 21 = .ok (.iconst 0, 1) := sorry
theorem dX0_countOf_22 : decode cX0_countOf 22 = .ok (.ireturn, 1) := sorry
abbrev cX0_printedAs : ByteArray := method_27_code
def yX0_printedAs : MethodName := ⟨RX0, "printedAs", "(LLabelDriver;I[J)I"⟩
def dkwX0_printedAs_0 : List UInt8 := [44, 3, 42, 27, 182, 0, 93, 133, 80, 167, 0, 6, 78, 4, 172, 3, 172]
abbrev dktX0_printedAs_0 : List UInt8 := dkwX0_printedAs_0 ++ []
theorem dksX0_printedAs_0 : cX0_printedAs.data.toList.drop 0 = dktX0_printedAs_0 := sorry
theorem dX0_printedAs_0 : decode cX0_printedAs 0 = .ok (.aload_n 2, 1) := sorry
theorem dX0_printedAs_1 : decode cX0_printedAs 1 = .ok (.iconst 0, 1) := sorry
theorem dX0_printedAs_2 : decode cX0_printedAs 2 = .ok (.aload_n 0, 1) := sorry
theorem dX0_printedAs_3 : decode cX0_printedAs 3 = .ok (.iload_n 1, 1) := sorry
theorem dX0_printedAs_4 : decode cX0_printedAs 4 = .ok (.invokevirtual 93, 3) := sorry
theorem dX0_printedAs_7 : decode cX0_printedAs 7 = .ok (.i2l, 1) := sorry
theorem dX0_printedAs_8 : decode cX0_printedAs 8 = .ok (.lastore, 1) := sorry
theorem dX0_printedAs_9 : decode cX0_printedAs 9 = .ok (.goto 6, 3) := sorry
theorem dX0_printedAs_12 : decode cX0_printedAs 12 = .ok (.astore_n 3, 1) := sorry
theorem dX0_printedAs_13 : decode cX0_printedAs 13 = .ok (.iconst 1, 1) := sorry
theorem dX0_printedAs_14 : decode cX0_printedAs 14 = .ok (.ireturn, 1) := sorry
theorem dX0_printedAs_15 : decode cX0_printedAs 15 = .ok (.iconst 0, 1) := sorry
theorem dX0_printedAs_16 : decode cX0_printedAs 16 = .ok (.ireturn, 1) := sorry
abbrev cX0_verify : ByteArray := method_28_code
def yX0_verify : MethodName := ⟨RX0, "verify", "(LLabelDriver;III[J)I"⟩
def dkwX0_verify_0 : List UInt8 := [25, 4, 3, 42, 27, 28, 29, 182, 0, 96, 133, 80, 167, 0, 7, 58, 5, 4, 172, 3, 172]
abbrev dktX0_verify_0 : List UInt8 := dkwX0_verify_0 ++ []
theorem dksX0_verify_0 : cX0_verify.data.toList.drop 0 = dktX0_verify_0 := sorry
theorem dX0_verify_0 : decode cX0_verify 0 = .ok (.aload 4, 2) := sorry
theorem dX0_verify_2 : decode cX0_verify 2 = .ok (.iconst 0, 1) := sorry
theorem dX0_verify_3 : decode cX0_verify 3 = .ok (.aload_n 0, 1) := sorry
theorem dX0_verify_4 : decode cX0_verify 4 = .ok (.iload_n 1, 1) := sorry
theorem dX0_verify_5 : decode cX0_verify 5 = .ok (.iload_n 2, 1) := sorry
theorem dX0_verify_6 : decode cX0_verify 6 = .ok (.iload_n 3, 1) := sorry
theorem dX0_verify_7 : decode cX0_verify 7 = .ok (.invokevirtual 96, 3) := sorry
theorem dX0_verify_10 : decode cX0_verify 10 = .ok (.i2l, 1) := sorry
theorem dX0_verify_11 : decode cX0_verify 11 = .ok (.lastore, 1) := sorry
theorem dX0_verify_12 : decode cX0_verify 12 = .ok (.goto 7, 3) := sorry
theorem dX0_verify_15 : decode cX0_verify 15 = .ok (.astore 5, 2) := sorry
theorem dX0_verify_17 : decode cX0_verify 17 = .ok (.iconst 1, 1) := sorry
theorem dX0_verify_18 : decode cX0_verify 18 = .ok (.ireturn, 1) := sorry
theorem dX0_verify_19 : decode cX0_verify 19 = .ok (.iconst 0, 1) := sorry
theorem dX0_verify_20 : decode cX0_verify 20 = .ok (.ireturn, 1) := sorry
abbrev cX0_run : ByteArray := method_29_code
def yX0_run : MethodName := ⟨RX0, "run", "(LLabelDriver;I[J)I"⟩
def dkwX0_run_0 : List UInt8 := [44, 3, 42, 27, 182, 0, 100, 133, 80, 167, 0, 9, 78, 4, 172, 78, 5, 172, 3, 172]
abbrev dktX0_run_0 : List UInt8 := dkwX0_run_0 ++ []
theorem dksX0_run_0 : cX0_run.data.toList.drop 0 = dktX0_run_0 := sorry
theorem dX0_run_0 : decode cX0_run 0 = .ok (.aload_n 2, 1) := sorry
theorem dX0_run_1 : decode cX0_run 1 = .ok (.iconst 0, 1) := sorry
theorem dX0_run_2 : decode cX0_run 2 = .ok (.aload_n 0, 1) := sorry
theorem dX0_run_3 : decode cX0_run 3 = .ok (.iload_n 1, 1) := sorry
theorem dX0_run_4 : decode cX0_run 4 = .ok (.invokevirtual 100, 3) := sorry
theorem dX0_run_7 : decode cX0_run 7 = .ok (.i2l, 1) := sorry
theorem dX0_run_8 : decode cX0_run 8 = .ok (.lastore, 1) := sorry
theorem dX0_run_9 : decode cX0_run 9 = .ok (.goto 9, 3) := sorry
theorem dX0_run_12 : decode cX0_run 12 = .ok (.astore_n 3, 1) := sorry
theorem dX0_run_13 : decode cX0_run 13 = .ok (.iconst 1, 1) := sorry
theorem dX0_run_14 : decode cX0_run 14 = .ok (.ireturn, 1) := sorry
theorem dX0_run_15 : decode cX0_run 15 = .ok (.astore_n 3, 1) := sorry
theorem dX0_run_16 : decode cX0_run 16 = .ok (.iconst 2, 1) := sorry
theorem dX0_run_17 : decode cX0_run 17 = .ok (.ireturn, 1) := sorry
theorem dX0_run_18 : decode cX0_run 18 = .ok (.iconst 0, 1) := sorry
theorem dX0_run_19 : decode cX0_run 19 = .ok (.ireturn, 1) := sorry
abbrev cX0_wouldRun : ByteArray := method_30_code
def yX0_wouldRun : MethodName := ⟨RX0, "wouldRun", "(LLabelDriver;II[J)I"⟩
def dkwX0_wouldRun_1 : List UInt8 := [172, 3, 172]
abbrev dktX0_wouldRun_1 : List UInt8 := dkwX0_wouldRun_1 ++ []
def dkwX0_wouldRun_0 : List UInt8 := [45, 3, 42, 27, 28, 182, 0, 103, 133, 80, 167, 0, 15, 58, 4, 4, 172, 58, 4, 5, 172, 58, 4, 6]
abbrev dktX0_wouldRun_0 : List UInt8 := dkwX0_wouldRun_0 ++ dktX0_wouldRun_1
theorem dksX0_wouldRun_0 : cX0_wouldRun.data.toList.drop 0 = dktX0_wouldRun_0 := sorry
theorem dksX0_wouldRun_1 : cX0_wouldRun.data.toList.drop 24 = dktX0_wouldRun_1 := sorry
theorem dX0_wouldRun_0 : decode cX0_wouldRun 0 = .ok (.aload_n 3, 1) := sorry
theorem dX0_wouldRun_1 : decode cX0_wouldRun 1 = .ok (.iconst 0, 1) := sorry
theorem dX0_wouldRun_2 : decode cX0_wouldRun 2 = .ok (.aload_n 0, 1) := sorry
theorem dX0_wouldRun_3 : decode cX0_wouldRun 3 = .ok (.iload_n 1, 1) := sorry
theorem dX0_wouldRun_4 : decode cX0_wouldRun 4 = .ok (.iload_n 2, 1) := sorry
theorem dX0_wouldRun_5 : decode cX0_wouldRun 5 = .ok (.invokevirtual 103, 3) := sorry
theorem dX0_wouldRun_8 : decode cX0_wouldRun 8 = .ok (.i2l, 1) := sorry
theorem dX0_wouldRun_9 : decode cX0_wouldRun 9 = .ok (.lastore, 1) := sorry
theorem dX0_wouldRun_10 : decode cX0_wouldRun 10 = .ok (.goto 15, 3) := sorry
theorem dX0_wouldRun_13 : decode cX0_wouldRun 13 = .ok (.astore 4, 2) := sorry
theorem dX0_wouldRun_15 : decode cX0_wouldRun 15 = .ok (.iconst 1, 1) := sorry
theorem dX0_wouldRun_16 : decode cX0_wouldRun 16 = .ok (.ireturn, 1) := sorry
theorem dX0_wouldRun_17 : decode cX0_wouldRun 17 = .ok (.astore 4, 2) := sorry
theorem dX0_wouldRun_19 : decode cX0_wouldRun 19 = .ok (.iconst 2, 1) := sorry
theorem dX0_wouldRun_20 : decode cX0_wouldRun 20 = .ok (.ireturn, 1) := sorry
theorem dX0_wouldRun_21 : decode cX0_wouldRun 21 = .ok (.astore 4, 2) := sorry
theorem dX0_wouldRun_23 : decode cX0_wouldRun 23 = .ok (.iconst 3, 1) := sorry
theorem dX0_wouldRun_24 : decode cX0_wouldRun 24 = .ok (.ireturn, 1) := sorry
theorem dX0_wouldRun_25 : decode cX0_wouldRun 25 = .ok (.iconst 0, 1) := sorry
theorem dX0_wouldRun_26 : decode cX0_wouldRun 26 = .ok (.ireturn, 1) := sorry
abbrev cX0_logField : ByteArray := method_31_code
def yX0_logField : MethodName := ⟨RX0, "logField", "(LLabelDriver;II[J)I"⟩
def dkwX0_logField_0 : List UInt8 := [45, 3, 42, 27, 28, 182, 0, 106, 133, 80, 167, 0, 7, 58, 4, 4, 172, 3, 172]
abbrev dktX0_logField_0 : List UInt8 := dkwX0_logField_0 ++ []
theorem dksX0_logField_0 : cX0_logField.data.toList.drop 0 = dktX0_logField_0 := sorry
theorem dX0_logField_0 : decode cX0_logField 0 = .ok (.aload_n 3, 1) := sorry
theorem dX0_logField_1 : decode cX0_logField 1 = .ok (.iconst 0, 1) := sorry
theorem dX0_logField_2 : decode cX0_logField 2 = .ok (.aload_n 0, 1) := sorry
theorem dX0_logField_3 : decode cX0_logField 3 = .ok (.iload_n 1, 1) := sorry
theorem dX0_logField_4 : decode cX0_logField 4 = .ok (.iload_n 2, 1) := sorry
theorem dX0_logField_5 : decode cX0_logField 5 = .ok (.invokevirtual 106, 3) := sorry
theorem dX0_logField_8 : decode cX0_logField 8 = .ok (.i2l, 1) := sorry
theorem dX0_logField_9 : decode cX0_logField 9 = .ok (.lastore, 1) := sorry
theorem dX0_logField_10 : decode cX0_logField 10 = .ok (.goto 7, 3) := sorry
theorem dX0_logField_13 : decode cX0_logField 13 = .ok (.astore 4, 2) := sorry
theorem dX0_logField_15 : decode cX0_logField 15 = .ok (.iconst 1, 1) := sorry
theorem dX0_logField_16 : decode cX0_logField 16 = .ok (.ireturn, 1) := sorry
theorem dX0_logField_17 : decode cX0_logField 17 = .ok (.iconst 0, 1) := sorry
theorem dX0_logField_18 : decode cX0_logField 18 = .ok (.ireturn, 1) := sorry
abbrev cX0_makeVoid : ByteArray := method_32_code
def yX0_makeVoid : MethodName := ⟨RX0, "makeVoid", "(LLabelDriver;II[J)I"⟩
def dkwX0_makeVoid_0 : List UInt8 := [45, 3, 42, 27, 28, 182, 0, 109, 133, 80, 167, 0, 11, 58, 4, 4, 172, 58, 4, 5, 172, 3, 172]
abbrev dktX0_makeVoid_0 : List UInt8 := dkwX0_makeVoid_0 ++ []
theorem dksX0_makeVoid_0 : cX0_makeVoid.data.toList.drop 0 = dktX0_makeVoid_0 := sorry
theorem dX0_makeVoid_0 : decode cX0_makeVoid 0 = .ok (.aload_n 3, 1) := sorry
theorem dX0_makeVoid_1 : decode cX0_makeVoid 1 = .ok (.iconst 0, 1) := sorry
theorem dX0_makeVoid_2 : decode cX0_makeVoid 2 = .ok (.aload_n 0, 1) := sorry
theorem dX0_makeVoid_3 : decode cX0_makeVoid 3 = .ok (.iload_n 1, 1) := sorry
theorem dX0_makeVoid_4 : decode cX0_makeVoid 4 = .ok (.iload_n 2, 1) := sorry
theorem dX0_makeVoid_5 : decode cX0_makeVoid 5 = .ok (.invokevirtual 109, 3) := sorry
theorem dX0_makeVoid_8 : decode cX0_makeVoid 8 = .ok (.i2l, 1) := sorry
theorem dX0_makeVoid_9 : decode cX0_makeVoid 9 = .ok (.lastore, 1) := sorry
theorem dX0_makeVoid_10 : decode cX0_makeVoid 10 = .ok (.goto 11, 3) := sorry
theorem dX0_makeVoid_13 : decode cX0_makeVoid 13 = .ok (.astore 4, 2) := sorry
theorem dX0_makeVoid_15 : decode cX0_makeVoid 15 = .ok (.iconst 1, 1) := sorry
theorem dX0_makeVoid_16 : decode cX0_makeVoid 16 = .ok (.ireturn, 1) := sorry
theorem dX0_makeVoid_17 : decode cX0_makeVoid 17 = .ok (.astore 4, 2) := sorry
theorem dX0_makeVoid_19 : decode cX0_makeVoid 19 = .ok (.iconst 2, 1) := sorry
theorem dX0_makeVoid_20 : decode cX0_makeVoid 20 = .ok (.ireturn, 1) := sorry
theorem dX0_makeVoid_21 : decode cX0_makeVoid 21 = .ok (.iconst 0, 1) := sorry
theorem dX0_makeVoid_22 : decode cX0_makeVoid 22 = .ok (.ireturn, 1) := sorry
abbrev cX0_requeue : ByteArray := method_33_code
def yX0_requeue : MethodName := ⟨RX0, "requeue", "(LLabelDriver;II[J)I"⟩
def dkwX0_requeue_0 : List UInt8 := [45, 3, 42, 27, 28, 182, 0, 112, 133, 80, 167, 0, 11, 58, 4, 4, 172, 58, 4, 5, 172, 3, 172]
abbrev dktX0_requeue_0 : List UInt8 := dkwX0_requeue_0 ++ []
theorem dksX0_requeue_0 : cX0_requeue.data.toList.drop 0 = dktX0_requeue_0 := sorry
theorem dX0_requeue_0 : decode cX0_requeue 0 = .ok (.aload_n 3, 1) := sorry
theorem dX0_requeue_1 : decode cX0_requeue 1 = .ok (.iconst 0, 1) := sorry
theorem dX0_requeue_2 : decode cX0_requeue 2 = .ok (.aload_n 0, 1) := sorry
theorem dX0_requeue_3 : decode cX0_requeue 3 = .ok (.iload_n 1, 1) := sorry
theorem dX0_requeue_4 : decode cX0_requeue 4 = .ok (.iload_n 2, 1) := sorry
theorem dX0_requeue_5 : decode cX0_requeue 5 = .ok (.invokevirtual 112, 3) := sorry
theorem dX0_requeue_8 : decode cX0_requeue 8 = .ok (.i2l, 1) := sorry
theorem dX0_requeue_9 : decode cX0_requeue 9 = .ok (.lastore, 1) := sorry
theorem dX0_requeue_10 : decode cX0_requeue 10 = .ok (.goto 11, 3) := sorry
theorem dX0_requeue_13 : decode cX0_requeue 13 = .ok (.astore 4, 2) := sorry
theorem dX0_requeue_15 : decode cX0_requeue 15 = .ok (.iconst 1, 1) := sorry
theorem dX0_requeue_16 : decode cX0_requeue 16 = .ok (.ireturn, 1) := sorry
theorem dX0_requeue_17 : decode cX0_requeue 17 = .ok (.astore 4, 2) := sorry
theorem dX0_requeue_19 : decode cX0_requeue 19 = .ok (.iconst 2, 1) := sorry
theorem dX0_requeue_20 : decode cX0_requeue 20 = .ok (.ireturn, 1) := sorry
theorem dX0_requeue_21 : decode cX0_requeue 21 = .ok (.iconst 0, 1) := sorry
theorem dX0_requeue_22 : decode cX0_requeue 22 = .ok (.ireturn, 1) := sorry
abbrev cX0_unqueue : ByteArray := method_34_code
def yX0_unqueue : MethodName := ⟨RX0, "unqueue", "(LLabelDriver;II[J)I"⟩
def dkwX0_unqueue_0 : List UInt8 := [45, 3, 42, 27, 28, 182, 0, 115, 133, 80, 167, 0, 11, 58, 4, 4, 172, 58, 4, 5, 172, 3, 172]
abbrev dktX0_unqueue_0 : List UInt8 := dkwX0_unqueue_0 ++ []
theorem dksX0_unqueue_0 : cX0_unqueue.data.toList.drop 0 = dktX0_unqueue_0 := sorry
theorem dX0_unqueue_0 : decode cX0_unqueue 0 = .ok (.aload_n 3, 1) := sorry
theorem dX0_unqueue_1 : decode cX0_unqueue 1 = .ok (.iconst 0, 1) := sorry
theorem dX0_unqueue_2 : decode cX0_unqueue 2 = .ok (.aload_n 0, 1) := sorry
theorem dX0_unqueue_3 : decode cX0_unqueue 3 = .ok (.iload_n 1, 1) := sorry
theorem dX0_unqueue_4 : decode cX0_unqueue 4 = .ok (.iload_n 2, 1) := sorry
theorem dX0_unqueue_5 : decode cX0_unqueue 5 = .ok (.invokevirtual 115, 3) := sorry
theorem dX0_unqueue_8 : decode cX0_unqueue 8 = .ok (.i2l, 1) := sorry
theorem dX0_unqueue_9 : decode cX0_unqueue 9 = .ok (.lastore, 1) := sorry
theorem dX0_unqueue_10 : decode cX0_unqueue 10 = .ok (.goto 11, 3) := sorry
theorem dX0_unqueue_13 : decode cX0_unqueue 13 = .ok (.astore 4, 2) := sorry
theorem dX0_unqueue_15 : decode cX0_unqueue 15 = .ok (.iconst 1, 1) := sorry
theorem dX0_unqueue_16 : decode cX0_unqueue 16 = .ok (.ireturn, 1) := sorry
theorem dX0_unqueue_17 : decode cX0_unqueue 17 = .ok (.astore 4, 2) := sorry
theorem dX0_unqueue_19 : decode cX0_unqueue 19 = .ok (.iconst 2, 1) := sorry
theorem dX0_unqueue_20 : decode cX0_unqueue 20 = .ok (.ireturn, 1) := sorry
theorem dX0_unqueue_21 : decode cX0_unqueue 21 = .ok (.iconst 0, 1) := sorry
theorem dX0_unqueue_22 : decode cX0_unqueue 22 = .ok (.ireturn, 1) := sorry
abbrev cX0_abandon : ByteArray := method_35_code
def yX0_abandon : MethodName := ⟨RX0, "abandon", "(LLabelDriver;I[J)I"⟩
def dkwX0_abandon_0 : List UInt8 := [44, 3, 42, 27, 182, 0, 118, 133, 80, 167, 0, 6, 78, 4, 172, 3, 172]
abbrev dktX0_abandon_0 : List UInt8 := dkwX0_abandon_0 ++ []
theorem dksX0_abandon_0 : cX0_abandon.data.toList.drop 0 = dktX0_abandon_0 := sorry
theorem dX0_abandon_0 : decode cX0_abandon 0 = .ok (.aload_n 2, 1) := sorry
theorem dX0_abandon_1 : decode cX0_abandon 1 = .ok (.iconst 0, 1) := sorry
theorem dX0_abandon_2 : decode cX0_abandon 2 = .ok (.aload_n 0, 1) := sorry
theorem dX0_abandon_3 : decode cX0_abandon 3 = .ok (.iload_n 1, 1) := sorry
theorem dX0_abandon_4 : decode cX0_abandon 4 = .ok (.invokevirtual 118, 3) := sorry
theorem dX0_abandon_7 : decode cX0_abandon 7 = .ok (.i2l, 1) := sorry
theorem dX0_abandon_8 : decode cX0_abandon 8 = .ok (.lastore, 1) := sorry
theorem dX0_abandon_9 : decode cX0_abandon 9 = .ok (.goto 6, 3) := sorry
theorem dX0_abandon_12 : decode cX0_abandon 12 = .ok (.astore_n 3, 1) := sorry
theorem dX0_abandon_13 : decode cX0_abandon 13 = .ok (.iconst 1, 1) := sorry
theorem dX0_abandon_14 : decode cX0_abandon 14 = .ok (.ireturn, 1) := sorry
theorem dX0_abandon_15 : decode cX0_abandon 15 = .ok (.iconst 0, 1) := sorry
theorem dX0_abandon_16 : decode cX0_abandon 16 = .ok (.ireturn, 1) := sorry
abbrev cX0_ribbonLasts : ByteArray := method_36_code
def yX0_ribbonLasts : MethodName := ⟨RX0, "ribbonLasts", "(LLabelDriver;[J)I"⟩
def dkwX0_ribbonLasts_0 : List UInt8 := [43, 3, 42, 182, 0, 121, 133, 80, 167, 0, 6, 77, 4, 172, 3, 172]
abbrev dktX0_ribbonLasts_0 : List UInt8 := dkwX0_ribbonLasts_0 ++ []
theorem dksX0_ribbonLasts_0 : cX0_ribbonLasts.data.toList.drop 0 = dktX0_ribbonLasts_0 := sorry
theorem dX0_ribbonLasts_0 : decode cX0_ribbonLasts 0 = .ok (.aload_n 1, 1) := sorry
theorem dX0_ribbonLasts_1 : decode cX0_ribbonLasts 1 = .ok (.iconst 0, 1) := sorry
theorem dX0_ribbonLasts_2 : decode cX0_ribbonLasts 2 = .ok (.aload_n 0, 1) := sorry
theorem dX0_ribbonLasts_3 : decode cX0_ribbonLasts 3 = .ok (.invokevirtual 121, 3) := sorry
theorem dX0_ribbonLasts_6 : decode cX0_ribbonLasts 6 = .ok (.i2l, 1) := sorry
theorem dX0_ribbonLasts_7 : decode cX0_ribbonLasts 7 = .ok (.lastore, 1) := sorry
theorem dX0_ribbonLasts_8 : decode cX0_ribbonLasts 8 = .ok (.goto 6, 3) := sorry
theorem dX0_ribbonLasts_11 : decode cX0_ribbonLasts 11 = .ok (.astore_n 2, 1) := sorry
theorem dX0_ribbonLasts_12 : decode cX0_ribbonLasts 12 = .ok (.iconst 1, 1) := sorry
theorem dX0_ribbonLasts_13 : decode cX0_ribbonLasts 13 = .ok (.ireturn, 1) := sorry
theorem dX0_ribbonLasts_14 : decode cX0_ribbonLasts 14 = .ok (.iconst 0, 1) := sorry
theorem dX0_ribbonLasts_15 : decode cX0_ribbonLasts 15 = .ok (.ireturn, 1) := sorry
abbrev cX0_webLasts : ByteArray := method_37_code
def yX0_webLasts : MethodName := ⟨RX0, "webLasts", "(LLabelDriver;[J)I"⟩
def dkwX0_webLasts_0 : List UInt8 := [43, 3, 42, 182, 0, 124, 133, 80, 167, 0, 6, 77, 4, 172, 3, 172]
abbrev dktX0_webLasts_0 : List UInt8 := dkwX0_webLasts_0 ++ []
theorem dksX0_webLasts_0 : cX0_webLasts.data.toList.drop 0 = dktX0_webLasts_0 := sorry
theorem dX0_webLasts_0 : decode cX0_webLasts 0 = .ok (.aload_n 1, 1) := sorry
theorem dX0_webLasts_1 : decode cX0_webLasts 1 = .ok (.iconst 0, 1) := sorry
theorem dX0_webLasts_2 : decode cX0_webLasts 2 = .ok (.aload_n 0, 1) := sorry
theorem dX0_webLasts_3 : decode cX0_webLasts 3 = .ok (.invokevirtual 124, 3) := sorry
theorem dX0_webLasts_6 : decode cX0_webLasts 6 = .ok (.i2l, 1) := sorry
theorem dX0_webLasts_7 : decode cX0_webLasts 7 = .ok (.lastore, 1) := sorry
theorem dX0_webLasts_8 : decode cX0_webLasts 8 = .ok (.goto 6, 3) := sorry
theorem dX0_webLasts_11 : decode cX0_webLasts 11 = .ok (.astore_n 2, 1) := sorry
theorem dX0_webLasts_12 : decode cX0_webLasts 12 = .ok (.iconst 1, 1) := sorry
theorem dX0_webLasts_13 : decode cX0_webLasts 13 = .ok (.ireturn, 1) := sorry
theorem dX0_webLasts_14 : decode cX0_webLasts 14 = .ok (.iconst 0, 1) := sorry
theorem dX0_webLasts_15 : decode cX0_webLasts 15 = .ok (.ireturn, 1) := sorry
abbrev cX0_total : ByteArray := method_38_code
def yX0_total : MethodName := ⟨RX0, "total", "(LLabelDriver;I[J)I"⟩
def dkwX0_total_0 : List UInt8 := [44, 3, 42, 27, 182, 0, 127, 133, 80, 167, 0, 6, 78, 4, 172, 3, 172]
abbrev dktX0_total_0 : List UInt8 := dkwX0_total_0 ++ []
theorem dksX0_total_0 : cX0_total.data.toList.drop 0 = dktX0_total_0 := sorry
theorem dX0_total_0 : decode cX0_total 0 = .ok (.aload_n 2, 1) := sorry
theorem dX0_total_1 : decode cX0_total 1 = .ok (.iconst 0, 1) := sorry
theorem dX0_total_2 : decode cX0_total 2 = .ok (.aload_n 0, 1) := sorry
theorem dX0_total_3 : decode cX0_total 3 = .ok (.iload_n 1, 1) := sorry
theorem dX0_total_4 : decode cX0_total 4 = .ok (.invokevirtual 127, 3) := sorry
theorem dX0_total_7 : decode cX0_total 7 = .ok (.i2l, 1) := sorry
theorem dX0_total_8 : decode cX0_total 8 = .ok (.lastore, 1) := sorry
theorem dX0_total_9 : decode cX0_total 9 = .ok (.goto 6, 3) := sorry
theorem dX0_total_12 : decode cX0_total 12 = .ok (.astore_n 3, 1) := sorry
theorem dX0_total_13 : decode cX0_total 13 = .ok (.iconst 1, 1) := sorry
theorem dX0_total_14 : decode cX0_total 14 = .ok (.ireturn, 1) := sorry
theorem dX0_total_15 : decode cX0_total 15 = .ok (.iconst 0, 1) := sorry
theorem dX0_total_16 : decode cX0_total 16 = .ok (.ireturn, 1) := sorry
abbrev cX0_formatSerial : ByteArray := method_39_code
def yX0_formatSerial : MethodName := ⟨RX0, "formatSerial", "(LLabelDriver;II[J)I"⟩
def dkwX0_formatSerial_0 : List UInt8 := [45, 3, 42, 27, 28, 182, 0, 130, 133, 80, 167, 0, 7, 58, 4, 4, 172, 3, 172]
abbrev dktX0_formatSerial_0 : List UInt8 := dkwX0_formatSerial_0 ++ []
theorem dksX0_formatSerial_0 : cX0_formatSerial.data.toList.drop 0 = dktX0_formatSerial_0 := sorry
theorem dX0_formatSerial_0 : decode cX0_formatSerial 0 = .ok (.aload_n 3, 1) := sorry
theorem dX0_formatSerial_1 : decode cX0_formatSerial 1 = .ok (.iconst 0, 1) := sorry
theorem dX0_formatSerial_2 : decode cX0_formatSerial 2 = .ok (.aload_n 0, 1) := sorry
theorem dX0_formatSerial_3 : decode cX0_formatSerial 3 = .ok (.iload_n 1, 1) := sorry
theorem dX0_formatSerial_4 : decode cX0_formatSerial 4 = .ok (.iload_n 2, 1) := sorry
theorem dX0_formatSerial_5 : decode cX0_formatSerial 5 = .ok (.invokevirtual 130, 3) := sorry
theorem dX0_formatSerial_8 : decode cX0_formatSerial 8 = .ok (.i2l, 1) := sorry
theorem dX0_formatSerial_9 : decode cX0_formatSerial 9 = .ok (.lastore, 1) := sorry
theorem dX0_formatSerial_10 : decode cX0_formatSerial 10 = .ok (.goto 7, 3) := sorry
theorem dX0_formatSerial_13 : decode cX0_formatSerial 13 = .ok (.astore 4, 2) := sorry
theorem dX0_formatSerial_15 : decode cX0_formatSerial 15 = .ok (.iconst 1, 1) := sorry
theorem dX0_formatSerial_16 : decode cX0_formatSerial 16 = .ok (.ireturn, 1) := sorry
theorem dX0_formatSerial_17 : decode cX0_formatSerial 17 = .ok (.iconst 0, 1) := sorry
theorem dX0_formatSerial_18 : decode cX0_formatSerial 18 = .ok (.ireturn, 1) := sorry
abbrev cX0_formatBatch : ByteArray := method_40_code
def yX0_formatBatch : MethodName := ⟨RX0, "formatBatch", "(LLabelDriver;I[J)I"⟩
def dkwX0_formatBatch_0 : List UInt8 := [44, 3, 42, 27, 182, 0, 133, 133, 80, 167, 0, 6, 78, 4, 172, 3, 172]
abbrev dktX0_formatBatch_0 : List UInt8 := dkwX0_formatBatch_0 ++ []
theorem dksX0_formatBatch_0 : cX0_formatBatch.data.toList.drop 0 = dktX0_formatBatch_0 := sorry
theorem dX0_formatBatch_0 : decode cX0_formatBatch 0 = .ok (.aload_n 2, 1) := sorry
theorem dX0_formatBatch_1 : decode cX0_formatBatch 1 = .ok (.iconst 0, 1) := sorry
theorem dX0_formatBatch_2 : decode cX0_formatBatch 2 = .ok (.aload_n 0, 1) := sorry
theorem dX0_formatBatch_3 : decode cX0_formatBatch 3 = .ok (.iload_n 1, 1) := sorry
theorem dX0_formatBatch_4 : decode cX0_formatBatch 4 = .ok (.invokevirtual 133, 3) := sorry
theorem dX0_formatBatch_7 : decode cX0_formatBatch 7 = .ok (.i2l, 1) := sorry
theorem dX0_formatBatch_8 : decode cX0_formatBatch 8 = .ok (.lastore, 1) := sorry
theorem dX0_formatBatch_9 : decode cX0_formatBatch 9 = .ok (.goto 6, 3) := sorry
theorem dX0_formatBatch_12 : decode cX0_formatBatch 12 = .ok (.astore_n 3, 1) := sorry
theorem dX0_formatBatch_13 : decode cX0_formatBatch 13 = .ok (.iconst 1, 1) := sorry
theorem dX0_formatBatch_14 : decode cX0_formatBatch 14 = .ok (.ireturn, 1) := sorry
theorem dX0_formatBatch_15 : decode cX0_formatBatch 15 = .ok (.iconst 0, 1) := sorry
theorem dX0_formatBatch_16 : decode cX0_formatBatch 16 = .ok (.ireturn, 1) := sorry
theorem q83 : (Jvm.Cond.initialized "LabelDriverLaw") ∈ lw_all := sorry
theorem q127 : (Jvm.Cond.classLink "LabelDriverLaw" (8 : Nat) "LabelDriver") ∈ lw_all := sorry
theorem q129 : (Jvm.Cond.methodLink "LabelDriverLaw" (136 : Nat) ({ cls := "LabelDriver", name := "<init>", desc := "()V" } : Jvm.MethodName)) ∈ lw_all := sorry
theorem q666 : (Jvm.Cond.methodLink "LabelDriverLaw" (140 : Nat) ({ cls := "LabelDriver", name := "append", desc := "(IIIII)I" } : Jvm.MethodName)) ∈ lw_all := sorry
theorem q670 : (Jvm.Cond.methodLink "LabelDriverLaw" (144 : Nat) ({ cls := "LabelDriver", name := "truncate", desc := "(I)Z" } : Jvm.MethodName)) ∈ lw_all := sorry
theorem q677 : (Jvm.Cond.methodLink "LabelDriverLaw" (158 : Nat) ({ cls := "LabelDriver", name := "errorOffset", desc := "()I" } : Jvm.MethodName)) ∈ lw_all := sorry
theorem q681 : (Jvm.Cond.methodLink "LabelDriverLaw" (162 : Nat) ({ cls := "LabelDriver", name := "errorKind", desc := "()I" } : Jvm.MethodName)) ∈ lw_all := sorry
theorem q685 : (Jvm.Cond.methodLink "LabelDriverLaw" (178 : Nat) ({ cls := "LabelDriver", name := "ribbonLeft", desc := "()I" } : Jvm.MethodName)) ∈ lw_all := sorry
theorem q689 : (Jvm.Cond.methodLink "LabelDriverLaw" (206 : Nat) ({ cls := "LabelDriver", name := "isReady", desc := "()Z" } : Jvm.MethodName)) ∈ lw_all := sorry
theorem q693 : (Jvm.Cond.methodLink "LabelDriverLaw" (226 : Nat) ({ cls := "LabelDriver", name := "lastShift", desc := "()I" } : Jvm.MethodName)) ∈ lw_all := sorry
theorem q697 : (Jvm.Cond.methodLink "LabelDriverLaw" (251 : Nat) ({ cls := "LabelDriver", name := "mostAttempts", desc := "()I" } : Jvm.MethodName)) ∈ lw_all := sorry
theorem q720 : (Jvm.Cond.methodLink "LabelDriverLaw" (255 : Nat) ({ cls := "LabelDriver", name := "reprints", desc := "()I" } : Jvm.MethodName)) ∈ lw_all := sorry
theorem q731 : (Jvm.Cond.methodLink "LabelDriverLaw" (259 : Nat) ({ cls := "LabelDriver", name := "reprint", desc := "(I)I" } : Jvm.MethodName)) ∈ lw_all := sorry
theorem q873 : (Jvm.Cond.methodLink "LabelDriverLaw" (263 : Nat) ({ cls := "LabelDriver", name := "nextSerial", desc := "()I" } : Jvm.MethodName)) ∈ lw_all := sorry
theorem q912 : (Jvm.Cond.methodLink "LabelDriverLaw" (274 : Nat) ({ cls := "LabelDriver", name := "doubles", desc := "()I" } : Jvm.MethodName)) ∈ lw_all := sorry
theorem q926 : (Jvm.Cond.methodLink "LabelDriverLaw" (284 : Nat) ({ cls := "LabelDriver", name := "logCount", desc := "()I" } : Jvm.MethodName)) ∈ lw_all := sorry
theorem q930 : (Jvm.Cond.methodLink "LabelDriverLaw" (291 : Nat) ({ cls := "LabelDriver", name := "printingAt", desc := "(I)I" } : Jvm.MethodName)) ∈ lw_all := sorry
theorem q934 : (Jvm.Cond.methodLink "LabelDriverLaw" (295 : Nat) ({ cls := "LabelDriver", name := "longestRow", desc := "()I" } : Jvm.MethodName)) ∈ lw_all := sorry
theorem q939 : (Jvm.Cond.methodLink "LabelDriverLaw" (299 : Nat) ({ cls := "LabelDriver", name := "trouble", desc := "()I" } : Jvm.MethodName)) ∈ lw_all := sorry
theorem q943 : (Jvm.Cond.methodLink "LabelDriverLaw" (303 : Nat) ({ cls := "LabelDriver", name := "causeOfTrouble", desc := "()I" } : Jvm.MethodName)) ∈ lw_all := sorry
theorem q947 : (Jvm.Cond.methodLink "LabelDriverLaw" (319 : Nat) ({ cls := "LabelDriver", name := "undo", desc := "()I" } : Jvm.MethodName)) ∈ lw_all := sorry
theorem q963 : (Jvm.Cond.methodLink "LabelDriverLaw" (323 : Nat) ({ cls := "LabelDriver", name := "undoDepth", desc := "()I" } : Jvm.MethodName)) ∈ lw_all := sorry
theorem q967 : (Jvm.Cond.methodLink "LabelDriverLaw" (333 : Nat) ({ cls := "LabelDriver", name := "toPrint", desc := "()I" } : Jvm.MethodName)) ∈ lw_all := sorry
theorem q997 : (Jvm.Cond.methodLink "LabelDriverLaw" (337 : Nat) ({ cls := "LabelDriver", name := "yieldPercent", desc := "()I" } : Jvm.MethodName)) ∈ lw_all := sorry
theorem q1001 : (Jvm.Cond.methodLink "LabelDriverLaw" (350 : Nat) ({ cls := "LabelDriver", name := "formattedByte", desc := "(I)I" } : Jvm.MethodName)) ∈ lw_all := sorry
theorem q1019 : (Jvm.Cond.methodLink "LabelDriverLaw" (149 : Nat) ({ cls := "LabelDriverLaw", name := "load", desc := "(LLabelDriver;[J)I" } : Jvm.MethodName)) ∈ lw_all := sorry
theorem q1020 : (Jvm.Cond.static ({ cls := "LabelDriverLaw", name := "load", desc := "(LLabelDriver;[J)I" } : Jvm.MethodName)) ∈ lw_all := sorry
theorem q1021 : (Jvm.Cond.codeWith ({ cls := "LabelDriverLaw", name := "load", desc := "(LLabelDriver;[J)I" } : Jvm.MethodName) method_3_code (3 : Nat) (Option.some Jvm.ClassFile.FieldType.int) [((0 : Nat), (8 : Nat), (11 : Nat), (13 : Nat))]) ∈ lw_all := sorry
theorem q1022 : (Jvm.Cond.classLink "LabelDriverLaw" (13 : Nat) "java/lang/IllegalArgumentException") ∈ lw_all := sorry
theorem q1023 : (Jvm.Cond.methodLink "LabelDriverLaw" (7 : Nat) ({ cls := "LabelDriver", name := "load", desc := "()I" } : Jvm.MethodName)) ∈ lw_all := sorry
theorem q1332 : (Jvm.Cond.methodLink "LabelDriverLaw" (166 : Nat) ({ cls := "LabelDriverLaw", name := "mountRoll", desc := "(LLabelDriver;IIIII[J)I" } : Jvm.MethodName)) ∈ lw_all := sorry
theorem q1333 : (Jvm.Cond.static ({ cls := "LabelDriverLaw", name := "mountRoll", desc := "(LLabelDriver;IIIII[J)I" } : Jvm.MethodName)) ∈ lw_all := sorry
theorem q1334 : (Jvm.Cond.codeWith ({ cls := "LabelDriverLaw", name := "mountRoll", desc := "(LLabelDriver;IIIII[J)I" } : Jvm.MethodName) method_4_code (8 : Nat) (Option.some Jvm.ClassFile.FieldType.int) [((0 : Nat), (16 : Nat), (19 : Nat), (13 : Nat))]) ∈ lw_all := sorry
theorem q1335 : (Jvm.Cond.methodLink "LabelDriverLaw" (15 : Nat) ({ cls := "LabelDriver", name := "mountRoll", desc := "(IIIII)I" } : Jvm.MethodName)) ∈ lw_all := sorry
theorem q1437 : (Jvm.Cond.methodLink "LabelDriverLaw" (170 : Nat) ({ cls := "LabelDriverLaw", name := "stretch", desc := "(LLabelDriver;II[J)I" } : Jvm.MethodName)) ∈ lw_all := sorry
theorem q1438 : (Jvm.Cond.static ({ cls := "LabelDriverLaw", name := "stretch", desc := "(LLabelDriver;II[J)I" } : Jvm.MethodName)) ∈ lw_all := sorry
theorem q1439 : (Jvm.Cond.codeWith ({ cls := "LabelDriverLaw", name := "stretch", desc := "(LLabelDriver;II[J)I" } : Jvm.MethodName) method_5_code (5 : Nat) (Option.some Jvm.ClassFile.FieldType.int) [((0 : Nat), (10 : Nat), (13 : Nat), (23 : Nat)), ((0 : Nat), (10 : Nat), (17 : Nat), (25 : Nat)), ((0 : Nat), (10 : Nat), (21 : Nat), (13 : Nat))]) ∈ lw_all := sorry
theorem q1440 : (Jvm.Cond.classLink "LabelDriverLaw" (23 : Nat) "java/lang/IllegalStateException") ∈ lw_all := sorry
theorem q1441 : (Jvm.Cond.classLink "LabelDriverLaw" (25 : Nat) "java/lang/IndexOutOfBoundsException") ∈ lw_all := sorry
theorem q1460 : (Jvm.Cond.methodLink "LabelDriverLaw" (19 : Nat) ({ cls := "LabelDriver", name := "stretch", desc := "(II)I" } : Jvm.MethodName)) ∈ lw_all := sorry
theorem q1481 : (Jvm.Cond.methodLink "LabelDriverLaw" (174 : Nat) ({ cls := "LabelDriverLaw", name := "mountRibbon", desc := "(LLabelDriver;I[J)I" } : Jvm.MethodName)) ∈ lw_all := sorry
theorem q1482 : (Jvm.Cond.static ({ cls := "LabelDriverLaw", name := "mountRibbon", desc := "(LLabelDriver;I[J)I" } : Jvm.MethodName)) ∈ lw_all := sorry
theorem q1483 : (Jvm.Cond.codeWith ({ cls := "LabelDriverLaw", name := "mountRibbon", desc := "(LLabelDriver;I[J)I" } : Jvm.MethodName) method_6_code (4 : Nat) (Option.some Jvm.ClassFile.FieldType.int) [((0 : Nat), (9 : Nat), (12 : Nat), (13 : Nat))]) ∈ lw_all := sorry
theorem q1484 : (Jvm.Cond.methodLink "LabelDriverLaw" (27 : Nat) ({ cls := "LabelDriver", name := "mountRibbon", desc := "(I)I" } : Jvm.MethodName)) ∈ lw_all := sorry
theorem q1489 : (Jvm.Cond.methodLink "LabelDriverLaw" (182 : Nat) ({ cls := "LabelDriverLaw", name := "position", desc := "(LLabelDriver;[J)I" } : Jvm.MethodName)) ∈ lw_all := sorry
theorem q1490 : (Jvm.Cond.static ({ cls := "LabelDriverLaw", name := "position", desc := "(LLabelDriver;[J)I" } : Jvm.MethodName)) ∈ lw_all := sorry
theorem q1491 : (Jvm.Cond.codeWith ({ cls := "LabelDriverLaw", name := "position", desc := "(LLabelDriver;[J)I" } : Jvm.MethodName) method_7_code (3 : Nat) (Option.some Jvm.ClassFile.FieldType.int) [((0 : Nat), (8 : Nat), (11 : Nat), (23 : Nat))]) ∈ lw_all := sorry
theorem q1492 : (Jvm.Cond.methodLink "LabelDriverLaw" (31 : Nat) ({ cls := "LabelDriver", name := "position", desc := "()I" } : Jvm.MethodName)) ∈ lw_all := sorry
theorem q1496 : (Jvm.Cond.methodLink "LabelDriverLaw" (185 : Nat) ({ cls := "LabelDriverLaw", name := "webEnd", desc := "(LLabelDriver;[J)I" } : Jvm.MethodName)) ∈ lw_all := sorry
theorem q1497 : (Jvm.Cond.static ({ cls := "LabelDriverLaw", name := "webEnd", desc := "(LLabelDriver;[J)I" } : Jvm.MethodName)) ∈ lw_all := sorry
theorem q1498 : (Jvm.Cond.codeWith ({ cls := "LabelDriverLaw", name := "webEnd", desc := "(LLabelDriver;[J)I" } : Jvm.MethodName) method_8_code (3 : Nat) (Option.some Jvm.ClassFile.FieldType.int) [((0 : Nat), (8 : Nat), (11 : Nat), (23 : Nat))]) ∈ lw_all := sorry
theorem q1499 : (Jvm.Cond.methodLink "LabelDriverLaw" (34 : Nat) ({ cls := "LabelDriver", name := "webEnd", desc := "()I" } : Jvm.MethodName)) ∈ lw_all := sorry
theorem q1503 : (Jvm.Cond.methodLink "LabelDriverLaw" (188 : Nat) ({ cls := "LabelDriverLaw", name := "labelBegin", desc := "(LLabelDriver;I[J)I" } : Jvm.MethodName)) ∈ lw_all := sorry
theorem q1504 : (Jvm.Cond.static ({ cls := "LabelDriverLaw", name := "labelBegin", desc := "(LLabelDriver;I[J)I" } : Jvm.MethodName)) ∈ lw_all := sorry
theorem q1505 : (Jvm.Cond.codeWith ({ cls := "LabelDriverLaw", name := "labelBegin", desc := "(LLabelDriver;I[J)I" } : Jvm.MethodName) method_9_code (4 : Nat) (Option.some Jvm.ClassFile.FieldType.int) [((0 : Nat), (9 : Nat), (12 : Nat), (23 : Nat)), ((0 : Nat), (9 : Nat), (15 : Nat), (25 : Nat))]) ∈ lw_all := sorry
theorem q1506 : (Jvm.Cond.methodLink "LabelDriverLaw" (37 : Nat) ({ cls := "LabelDriver", name := "labelBegin", desc := "(I)I" } : Jvm.MethodName)) ∈ lw_all := sorry
theorem q1510 : (Jvm.Cond.methodLink "LabelDriverLaw" (191 : Nat) ({ cls := "LabelDriverLaw", name := "lightAt", desc := "(LLabelDriver;I[J)I" } : Jvm.MethodName)) ∈ lw_all := sorry
theorem q1511 : (Jvm.Cond.static ({ cls := "LabelDriverLaw", name := "lightAt", desc := "(LLabelDriver;I[J)I" } : Jvm.MethodName)) ∈ lw_all := sorry
theorem q1512 : (Jvm.Cond.codeWith ({ cls := "LabelDriverLaw", name := "lightAt", desc := "(LLabelDriver;I[J)I" } : Jvm.MethodName) method_10_code (4 : Nat) (Option.some Jvm.ClassFile.FieldType.int) [((0 : Nat), (9 : Nat), (12 : Nat), (23 : Nat))]) ∈ lw_all := sorry
theorem q1513 : (Jvm.Cond.methodLink "LabelDriverLaw" (40 : Nat) ({ cls := "LabelDriver", name := "lightAt", desc := "(I)I" } : Jvm.MethodName)) ∈ lw_all := sorry
theorem q1518 : (Jvm.Cond.methodLink "LabelDriverLaw" (194 : Nat) ({ cls := "LabelDriverLaw", name := "labelUnderHead", desc := "(LLabelDriver;[J)I" } : Jvm.MethodName)) ∈ lw_all := sorry
theorem q1519 : (Jvm.Cond.static ({ cls := "LabelDriverLaw", name := "labelUnderHead", desc := "(LLabelDriver;[J)I" } : Jvm.MethodName)) ∈ lw_all := sorry
theorem q1520 : (Jvm.Cond.codeWith ({ cls := "LabelDriverLaw", name := "labelUnderHead", desc := "(LLabelDriver;[J)I" } : Jvm.MethodName) method_11_code (3 : Nat) (Option.some Jvm.ClassFile.FieldType.int) [((0 : Nat), (8 : Nat), (11 : Nat), (23 : Nat))]) ∈ lw_all := sorry
theorem q1521 : (Jvm.Cond.methodLink "LabelDriverLaw" (43 : Nat) ({ cls := "LabelDriver", name := "labelUnderHead", desc := "()I" } : Jvm.MethodName)) ∈ lw_all := sorry
theorem q1526 : (Jvm.Cond.methodLink "LabelDriverLaw" (197 : Nat) ({ cls := "LabelDriverLaw", name := "feed", desc := "(LLabelDriver;I[J)I" } : Jvm.MethodName)) ∈ lw_all := sorry
theorem q1527 : (Jvm.Cond.static ({ cls := "LabelDriverLaw", name := "feed", desc := "(LLabelDriver;I[J)I" } : Jvm.MethodName)) ∈ lw_all := sorry
theorem q1528 : (Jvm.Cond.codeWith ({ cls := "LabelDriverLaw", name := "feed", desc := "(LLabelDriver;I[J)I" } : Jvm.MethodName) method_12_code (4 : Nat) (Option.some Jvm.ClassFile.FieldType.int) [((0 : Nat), (9 : Nat), (12 : Nat), (23 : Nat)), ((0 : Nat), (9 : Nat), (15 : Nat), (13 : Nat))]) ∈ lw_all := sorry
theorem q1529 : (Jvm.Cond.methodLink "LabelDriverLaw" (46 : Nat) ({ cls := "LabelDriver", name := "feed", desc := "(I)I" } : Jvm.MethodName)) ∈ lw_all := sorry
theorem q1548 : (Jvm.Cond.methodLink "LabelDriverLaw" (200 : Nat) ({ cls := "LabelDriverLaw", name := "feedToForm", desc := "(LLabelDriver;[J)I" } : Jvm.MethodName)) ∈ lw_all := sorry
theorem q1549 : (Jvm.Cond.static ({ cls := "LabelDriverLaw", name := "feedToForm", desc := "(LLabelDriver;[J)I" } : Jvm.MethodName)) ∈ lw_all := sorry
theorem q1550 : (Jvm.Cond.codeWith ({ cls := "LabelDriverLaw", name := "feedToForm", desc := "(LLabelDriver;[J)I" } : Jvm.MethodName) method_13_code (3 : Nat) (Option.some Jvm.ClassFile.FieldType.int) [((0 : Nat), (8 : Nat), (11 : Nat), (23 : Nat))]) ∈ lw_all := sorry
theorem q1551 : (Jvm.Cond.methodLink "LabelDriverLaw" (49 : Nat) ({ cls := "LabelDriver", name := "feedToForm", desc := "()I" } : Jvm.MethodName)) ∈ lw_all := sorry
theorem q1559 : (Jvm.Cond.methodLink "LabelDriverLaw" (203 : Nat) ({ cls := "LabelDriverLaw", name := "learn", desc := "(LLabelDriver;[J)I" } : Jvm.MethodName)) ∈ lw_all := sorry
theorem q1560 : (Jvm.Cond.static ({ cls := "LabelDriverLaw", name := "learn", desc := "(LLabelDriver;[J)I" } : Jvm.MethodName)) ∈ lw_all := sorry
theorem q1561 : (Jvm.Cond.codeWith ({ cls := "LabelDriverLaw", name := "learn", desc := "(LLabelDriver;[J)I" } : Jvm.MethodName) method_14_code (3 : Nat) (Option.some Jvm.ClassFile.FieldType.int) [((0 : Nat), (8 : Nat), (11 : Nat), (23 : Nat))]) ∈ lw_all := sorry
theorem q1562 : (Jvm.Cond.methodLink "LabelDriverLaw" (52 : Nat) ({ cls := "LabelDriver", name := "learn", desc := "()I" } : Jvm.MethodName)) ∈ lw_all := sorry
theorem q1671 : (Jvm.Cond.methodLink "LabelDriverLaw" (211 : Nat) ({ cls := "LabelDriverLaw", name := "learned", desc := "(LLabelDriver;I[J)I" } : Jvm.MethodName)) ∈ lw_all := sorry
theorem q1672 : (Jvm.Cond.static ({ cls := "LabelDriverLaw", name := "learned", desc := "(LLabelDriver;I[J)I" } : Jvm.MethodName)) ∈ lw_all := sorry
theorem q1673 : (Jvm.Cond.codeWith ({ cls := "LabelDriverLaw", name := "learned", desc := "(LLabelDriver;I[J)I" } : Jvm.MethodName) method_15_code (4 : Nat) (Option.some Jvm.ClassFile.FieldType.int) [((0 : Nat), (9 : Nat), (12 : Nat), (23 : Nat)), ((0 : Nat), (9 : Nat), (15 : Nat), (58 : Nat))]) ∈ lw_all := sorry
theorem q1674 : (Jvm.Cond.classLink "LabelDriverLaw" (58 : Nat) "java/util/NoSuchElementException") ∈ lw_all := sorry
theorem q1675 : (Jvm.Cond.methodLink "LabelDriverLaw" (55 : Nat) ({ cls := "LabelDriver", name := "learned", desc := "(I)I" } : Jvm.MethodName)) ∈ lw_all := sorry
theorem q1684 : (Jvm.Cond.methodLink "LabelDriverLaw" (214 : Nat) ({ cls := "LabelDriverLaw", name := "gapsSeen", desc := "(LLabelDriver;[J)I" } : Jvm.MethodName)) ∈ lw_all := sorry
theorem q1685 : (Jvm.Cond.static ({ cls := "LabelDriverLaw", name := "gapsSeen", desc := "(LLabelDriver;[J)I" } : Jvm.MethodName)) ∈ lw_all := sorry
theorem q1686 : (Jvm.Cond.codeWith ({ cls := "LabelDriverLaw", name := "gapsSeen", desc := "(LLabelDriver;[J)I" } : Jvm.MethodName) method_16_code (3 : Nat) (Option.some Jvm.ClassFile.FieldType.int) [((0 : Nat), (8 : Nat), (11 : Nat), (23 : Nat))]) ∈ lw_all := sorry
theorem q1687 : (Jvm.Cond.methodLink "LabelDriverLaw" (60 : Nat) ({ cls := "LabelDriver", name := "gapsSeen", desc := "()I" } : Jvm.MethodName)) ∈ lw_all := sorry
theorem q1693 : (Jvm.Cond.methodLink "LabelDriverLaw" (217 : Nat) ({ cls := "LabelDriverLaw", name := "seenTo", desc := "(LLabelDriver;[J)I" } : Jvm.MethodName)) ∈ lw_all := sorry
theorem q1694 : (Jvm.Cond.static ({ cls := "LabelDriverLaw", name := "seenTo", desc := "(LLabelDriver;[J)I" } : Jvm.MethodName)) ∈ lw_all := sorry
theorem q1695 : (Jvm.Cond.codeWith ({ cls := "LabelDriverLaw", name := "seenTo", desc := "(LLabelDriver;[J)I" } : Jvm.MethodName) method_17_code (3 : Nat) (Option.some Jvm.ClassFile.FieldType.int) [((0 : Nat), (8 : Nat), (11 : Nat), (23 : Nat))]) ∈ lw_all := sorry
theorem q1696 : (Jvm.Cond.methodLink "LabelDriverLaw" (63 : Nat) ({ cls := "LabelDriver", name := "seenTo", desc := "()I" } : Jvm.MethodName)) ∈ lw_all := sorry
theorem q1700 : (Jvm.Cond.methodLink "LabelDriverLaw" (220 : Nat) ({ cls := "LabelDriverLaw", name := "backfeed", desc := "(LLabelDriver;[J)I" } : Jvm.MethodName)) ∈ lw_all := sorry
theorem q1701 : (Jvm.Cond.static ({ cls := "LabelDriverLaw", name := "backfeed", desc := "(LLabelDriver;[J)I" } : Jvm.MethodName)) ∈ lw_all := sorry
theorem q1702 : (Jvm.Cond.codeWith ({ cls := "LabelDriverLaw", name := "backfeed", desc := "(LLabelDriver;[J)I" } : Jvm.MethodName) method_18_code (3 : Nat) (Option.some Jvm.ClassFile.FieldType.int) [((0 : Nat), (8 : Nat), (11 : Nat), (23 : Nat))]) ∈ lw_all := sorry
theorem q1703 : (Jvm.Cond.methodLink "LabelDriverLaw" (66 : Nat) ({ cls := "LabelDriver", name := "backfeed", desc := "()I" } : Jvm.MethodName)) ∈ lw_all := sorry
theorem q1707 : (Jvm.Cond.methodLink "LabelDriverLaw" (223 : Nat) ({ cls := "LabelDriverLaw", name := "nextGap", desc := "(LLabelDriver;I[J)I" } : Jvm.MethodName)) ∈ lw_all := sorry
theorem q1708 : (Jvm.Cond.static ({ cls := "LabelDriverLaw", name := "nextGap", desc := "(LLabelDriver;I[J)I" } : Jvm.MethodName)) ∈ lw_all := sorry
theorem q1709 : (Jvm.Cond.codeWith ({ cls := "LabelDriverLaw", name := "nextGap", desc := "(LLabelDriver;I[J)I" } : Jvm.MethodName) method_19_code (4 : Nat) (Option.some Jvm.ClassFile.FieldType.int) [((0 : Nat), (9 : Nat), (12 : Nat), (23 : Nat))]) ∈ lw_all := sorry
theorem q1710 : (Jvm.Cond.methodLink "LabelDriverLaw" (69 : Nat) ({ cls := "LabelDriver", name := "nextGap", desc := "(I)I" } : Jvm.MethodName)) ∈ lw_all := sorry
theorem q1716 : (Jvm.Cond.methodLink "LabelDriverLaw" (230 : Nat) ({ cls := "LabelDriverLaw", name := "tearPlace", desc := "(LLabelDriver;[J)I" } : Jvm.MethodName)) ∈ lw_all := sorry
theorem q1717 : (Jvm.Cond.static ({ cls := "LabelDriverLaw", name := "tearPlace", desc := "(LLabelDriver;[J)I" } : Jvm.MethodName)) ∈ lw_all := sorry
theorem q1718 : (Jvm.Cond.codeWith ({ cls := "LabelDriverLaw", name := "tearPlace", desc := "(LLabelDriver;[J)I" } : Jvm.MethodName) method_20_code (3 : Nat) (Option.some Jvm.ClassFile.FieldType.int) [((0 : Nat), (8 : Nat), (11 : Nat), (23 : Nat))]) ∈ lw_all := sorry
theorem q1719 : (Jvm.Cond.methodLink "LabelDriverLaw" (72 : Nat) ({ cls := "LabelDriver", name := "tearPlace", desc := "()I" } : Jvm.MethodName)) ∈ lw_all := sorry
theorem q1727 : (Jvm.Cond.methodLink "LabelDriverLaw" (233 : Nat) ({ cls := "LabelDriverLaw", name := "batchField", desc := "(LLabelDriver;II[J)I" } : Jvm.MethodName)) ∈ lw_all := sorry
theorem q1728 : (Jvm.Cond.static ({ cls := "LabelDriverLaw", name := "batchField", desc := "(LLabelDriver;II[J)I" } : Jvm.MethodName)) ∈ lw_all := sorry
theorem q1729 : (Jvm.Cond.codeWith ({ cls := "LabelDriverLaw", name := "batchField", desc := "(LLabelDriver;II[J)I" } : Jvm.MethodName) method_21_code (5 : Nat) (Option.some Jvm.ClassFile.FieldType.int) [((0 : Nat), (10 : Nat), (13 : Nat), (25 : Nat)), ((0 : Nat), (10 : Nat), (17 : Nat), (58 : Nat))]) ∈ lw_all := sorry
theorem q1730 : (Jvm.Cond.methodLink "LabelDriverLaw" (75 : Nat) ({ cls := "LabelDriver", name := "batchField", desc := "(II)I" } : Jvm.MethodName)) ∈ lw_all := sorry
theorem q1734 : (Jvm.Cond.methodLink "LabelDriverLaw" (236 : Nat) ({ cls := "LabelDriverLaw", name := "number", desc := "(LLabelDriver;II[J)I" } : Jvm.MethodName)) ∈ lw_all := sorry
theorem q1735 : (Jvm.Cond.static ({ cls := "LabelDriverLaw", name := "number", desc := "(LLabelDriver;II[J)I" } : Jvm.MethodName)) ∈ lw_all := sorry
theorem q1736 : (Jvm.Cond.codeWith ({ cls := "LabelDriverLaw", name := "number", desc := "(LLabelDriver;II[J)I" } : Jvm.MethodName) method_22_code (5 : Nat) (Option.some Jvm.ClassFile.FieldType.int) [((0 : Nat), (10 : Nat), (13 : Nat), (25 : Nat))]) ∈ lw_all := sorry
theorem q1737 : (Jvm.Cond.methodLink "LabelDriverLaw" (78 : Nat) ({ cls := "LabelDriver", name := "number", desc := "(II)I" } : Jvm.MethodName)) ∈ lw_all := sorry
theorem q1745 : (Jvm.Cond.methodLink "LabelDriverLaw" (239 : Nat) ({ cls := "LabelDriverLaw", name := "checkDigit", desc := "(LLabelDriver;II[J)I" } : Jvm.MethodName)) ∈ lw_all := sorry
theorem q1746 : (Jvm.Cond.static ({ cls := "LabelDriverLaw", name := "checkDigit", desc := "(LLabelDriver;II[J)I" } : Jvm.MethodName)) ∈ lw_all := sorry
theorem q1747 : (Jvm.Cond.codeWith ({ cls := "LabelDriverLaw", name := "checkDigit", desc := "(LLabelDriver;II[J)I" } : Jvm.MethodName) method_23_code (5 : Nat) (Option.some Jvm.ClassFile.FieldType.int) [((0 : Nat), (10 : Nat), (13 : Nat), (25 : Nat))]) ∈ lw_all := sorry
theorem q1748 : (Jvm.Cond.methodLink "LabelDriverLaw" (81 : Nat) ({ cls := "LabelDriver", name := "checkDigit", desc := "(II)I" } : Jvm.MethodName)) ∈ lw_all := sorry
theorem q1757 : (Jvm.Cond.methodLink "LabelDriverLaw" (242 : Nat) ({ cls := "LabelDriverLaw", name := "stateOf", desc := "(LLabelDriver;II[J)I" } : Jvm.MethodName)) ∈ lw_all := sorry
theorem q1758 : (Jvm.Cond.static ({ cls := "LabelDriverLaw", name := "stateOf", desc := "(LLabelDriver;II[J)I" } : Jvm.MethodName)) ∈ lw_all := sorry
theorem q1759 : (Jvm.Cond.codeWith ({ cls := "LabelDriverLaw", name := "stateOf", desc := "(LLabelDriver;II[J)I" } : Jvm.MethodName) method_24_code (5 : Nat) (Option.some Jvm.ClassFile.FieldType.int) [((0 : Nat), (10 : Nat), (13 : Nat), (25 : Nat))]) ∈ lw_all := sorry
theorem q1760 : (Jvm.Cond.methodLink "LabelDriverLaw" (84 : Nat) ({ cls := "LabelDriver", name := "stateOf", desc := "(II)I" } : Jvm.MethodName)) ∈ lw_all := sorry
theorem q1764 : (Jvm.Cond.methodLink "LabelDriverLaw" (245 : Nat) ({ cls := "LabelDriverLaw", name := "attempts", desc := "(LLabelDriver;II[J)I" } : Jvm.MethodName)) ∈ lw_all := sorry
theorem q1765 : (Jvm.Cond.static ({ cls := "LabelDriverLaw", name := "attempts", desc := "(LLabelDriver;II[J)I" } : Jvm.MethodName)) ∈ lw_all := sorry
theorem q1766 : (Jvm.Cond.codeWith ({ cls := "LabelDriverLaw", name := "attempts", desc := "(LLabelDriver;II[J)I" } : Jvm.MethodName) method_25_code (5 : Nat) (Option.some Jvm.ClassFile.FieldType.int) [((0 : Nat), (10 : Nat), (13 : Nat), (25 : Nat))]) ∈ lw_all := sorry
theorem q1767 : (Jvm.Cond.methodLink "LabelDriverLaw" (87 : Nat) ({ cls := "LabelDriver", name := "attempts", desc := "(II)I" } : Jvm.MethodName)) ∈ lw_all := sorry
theorem q1771 : (Jvm.Cond.methodLink "LabelDriverLaw" (248 : Nat) ({ cls := "LabelDriverLaw", name := "countOf", desc := "(LLabelDriver;II[J)I" } : Jvm.MethodName)) ∈ lw_all := sorry
theorem q1772 : (Jvm.Cond.static ({ cls := "LabelDriverLaw", name := "countOf", desc := "(LLabelDriver;II[J)I" } : Jvm.MethodName)) ∈ lw_all := sorry
theorem q1773 : (Jvm.Cond.codeWith ({ cls := "LabelDriverLaw", name := "countOf", desc := "(LLabelDriver;II[J)I" } : Jvm.MethodName) method_26_code (5 : Nat) (Option.some Jvm.ClassFile.FieldType.int) [((0 : Nat), (10 : Nat), (13 : Nat), (25 : Nat)), ((0 : Nat), (10 : Nat), (17 : Nat), (13 : Nat))]) ∈ lw_all := sorry
theorem q1774 : (Jvm.Cond.methodLink "LabelDriverLaw" (90 : Nat) ({ cls := "LabelDriver", name := "countOf", desc := "(II)I" } : Jvm.MethodName)) ∈ lw_all := sorry
theorem q1778 : (Jvm.Cond.methodLink "LabelDriverLaw" (267 : Nat) ({ cls := "LabelDriverLaw", name := "printedAs", desc := "(LLabelDriver;I[J)I" } : Jvm.MethodName)) ∈ lw_all := sorry
theorem q1779 : (Jvm.Cond.static ({ cls := "LabelDriverLaw", name := "printedAs", desc := "(LLabelDriver;I[J)I" } : Jvm.MethodName)) ∈ lw_all := sorry
theorem q1780 : (Jvm.Cond.codeWith ({ cls := "LabelDriverLaw", name := "printedAs", desc := "(LLabelDriver;I[J)I" } : Jvm.MethodName) method_27_code (4 : Nat) (Option.some Jvm.ClassFile.FieldType.int) [((0 : Nat), (9 : Nat), (12 : Nat), (13 : Nat))]) ∈ lw_all := sorry
theorem q1781 : (Jvm.Cond.methodLink "LabelDriverLaw" (93 : Nat) ({ cls := "LabelDriver", name := "printedAs", desc := "(I)I" } : Jvm.MethodName)) ∈ lw_all := sorry
theorem q1791 : (Jvm.Cond.methodLink "LabelDriverLaw" (270 : Nat) ({ cls := "LabelDriverLaw", name := "verify", desc := "(LLabelDriver;III[J)I" } : Jvm.MethodName)) ∈ lw_all := sorry
theorem q1792 : (Jvm.Cond.static ({ cls := "LabelDriverLaw", name := "verify", desc := "(LLabelDriver;III[J)I" } : Jvm.MethodName)) ∈ lw_all := sorry
theorem q1793 : (Jvm.Cond.codeWith ({ cls := "LabelDriverLaw", name := "verify", desc := "(LLabelDriver;III[J)I" } : Jvm.MethodName) method_28_code (6 : Nat) (Option.some Jvm.ClassFile.FieldType.int) [((0 : Nat), (12 : Nat), (15 : Nat), (25 : Nat))]) ∈ lw_all := sorry
theorem q1794 : (Jvm.Cond.methodLink "LabelDriverLaw" (96 : Nat) ({ cls := "LabelDriver", name := "verify", desc := "(III)I" } : Jvm.MethodName)) ∈ lw_all := sorry
theorem q1798 : (Jvm.Cond.methodLink "LabelDriverLaw" (278 : Nat) ({ cls := "LabelDriverLaw", name := "run", desc := "(LLabelDriver;I[J)I" } : Jvm.MethodName)) ∈ lw_all := sorry
theorem q1799 : (Jvm.Cond.static ({ cls := "LabelDriverLaw", name := "run", desc := "(LLabelDriver;I[J)I" } : Jvm.MethodName)) ∈ lw_all := sorry
theorem q1800 : (Jvm.Cond.codeWith ({ cls := "LabelDriverLaw", name := "run", desc := "(LLabelDriver;I[J)I" } : Jvm.MethodName) method_29_code (4 : Nat) (Option.some Jvm.ClassFile.FieldType.int) [((0 : Nat), (9 : Nat), (12 : Nat), (13 : Nat)), ((0 : Nat), (9 : Nat), (15 : Nat), (23 : Nat))]) ∈ lw_all := sorry
theorem q1801 : (Jvm.Cond.methodLink "LabelDriverLaw" (100 : Nat) ({ cls := "LabelDriver", name := "run", desc := "(I)I" } : Jvm.MethodName)) ∈ lw_all := sorry
theorem q1871 : (Jvm.Cond.methodLink "LabelDriverLaw" (281 : Nat) ({ cls := "LabelDriverLaw", name := "wouldRun", desc := "(LLabelDriver;II[J)I" } : Jvm.MethodName)) ∈ lw_all := sorry
theorem q1872 : (Jvm.Cond.static ({ cls := "LabelDriverLaw", name := "wouldRun", desc := "(LLabelDriver;II[J)I" } : Jvm.MethodName)) ∈ lw_all := sorry
theorem q1873 : (Jvm.Cond.codeWith ({ cls := "LabelDriverLaw", name := "wouldRun", desc := "(LLabelDriver;II[J)I" } : Jvm.MethodName) method_30_code (5 : Nat) (Option.some Jvm.ClassFile.FieldType.int) [((0 : Nat), (10 : Nat), (13 : Nat), (13 : Nat)), ((0 : Nat), (10 : Nat), (17 : Nat), (23 : Nat)), ((0 : Nat), (10 : Nat), (21 : Nat), (58 : Nat))]) ∈ lw_all := sorry
theorem q1874 : (Jvm.Cond.methodLink "LabelDriverLaw" (103 : Nat) ({ cls := "LabelDriver", name := "wouldRun", desc := "(II)I" } : Jvm.MethodName)) ∈ lw_all := sorry
theorem q1878 : (Jvm.Cond.methodLink "LabelDriverLaw" (288 : Nat) ({ cls := "LabelDriverLaw", name := "logField", desc := "(LLabelDriver;II[J)I" } : Jvm.MethodName)) ∈ lw_all := sorry
theorem q1879 : (Jvm.Cond.static ({ cls := "LabelDriverLaw", name := "logField", desc := "(LLabelDriver;II[J)I" } : Jvm.MethodName)) ∈ lw_all := sorry
theorem q1880 : (Jvm.Cond.codeWith ({ cls := "LabelDriverLaw", name := "logField", desc := "(LLabelDriver;II[J)I" } : Jvm.MethodName) method_31_code (5 : Nat) (Option.some Jvm.ClassFile.FieldType.int) [((0 : Nat), (10 : Nat), (13 : Nat), (58 : Nat))]) ∈ lw_all := sorry
theorem q1881 : (Jvm.Cond.methodLink "LabelDriverLaw" (106 : Nat) ({ cls := "LabelDriver", name := "logField", desc := "(II)I" } : Jvm.MethodName)) ∈ lw_all := sorry
theorem q1885 : (Jvm.Cond.methodLink "LabelDriverLaw" (307 : Nat) ({ cls := "LabelDriverLaw", name := "makeVoid", desc := "(LLabelDriver;II[J)I" } : Jvm.MethodName)) ∈ lw_all := sorry
theorem q1886 : (Jvm.Cond.static ({ cls := "LabelDriverLaw", name := "makeVoid", desc := "(LLabelDriver;II[J)I" } : Jvm.MethodName)) ∈ lw_all := sorry
theorem q1887 : (Jvm.Cond.codeWith ({ cls := "LabelDriverLaw", name := "makeVoid", desc := "(LLabelDriver;II[J)I" } : Jvm.MethodName) method_32_code (5 : Nat) (Option.some Jvm.ClassFile.FieldType.int) [((0 : Nat), (10 : Nat), (13 : Nat), (25 : Nat)), ((0 : Nat), (10 : Nat), (17 : Nat), (23 : Nat))]) ∈ lw_all := sorry
theorem q1888 : (Jvm.Cond.methodLink "LabelDriverLaw" (109 : Nat) ({ cls := "LabelDriver", name := "makeVoid", desc := "(II)I" } : Jvm.MethodName)) ∈ lw_all := sorry
theorem q1892 : (Jvm.Cond.methodLink "LabelDriverLaw" (310 : Nat) ({ cls := "LabelDriverLaw", name := "requeue", desc := "(LLabelDriver;II[J)I" } : Jvm.MethodName)) ∈ lw_all := sorry
theorem q1893 : (Jvm.Cond.static ({ cls := "LabelDriverLaw", name := "requeue", desc := "(LLabelDriver;II[J)I" } : Jvm.MethodName)) ∈ lw_all := sorry
theorem q1894 : (Jvm.Cond.codeWith ({ cls := "LabelDriverLaw", name := "requeue", desc := "(LLabelDriver;II[J)I" } : Jvm.MethodName) method_33_code (5 : Nat) (Option.some Jvm.ClassFile.FieldType.int) [((0 : Nat), (10 : Nat), (13 : Nat), (25 : Nat)), ((0 : Nat), (10 : Nat), (17 : Nat), (23 : Nat))]) ∈ lw_all := sorry
theorem q1895 : (Jvm.Cond.methodLink "LabelDriverLaw" (112 : Nat) ({ cls := "LabelDriver", name := "requeue", desc := "(II)I" } : Jvm.MethodName)) ∈ lw_all := sorry
theorem q1908 : (Jvm.Cond.methodLink "LabelDriverLaw" (313 : Nat) ({ cls := "LabelDriverLaw", name := "unqueue", desc := "(LLabelDriver;II[J)I" } : Jvm.MethodName)) ∈ lw_all := sorry
theorem q1909 : (Jvm.Cond.static ({ cls := "LabelDriverLaw", name := "unqueue", desc := "(LLabelDriver;II[J)I" } : Jvm.MethodName)) ∈ lw_all := sorry
theorem q1910 : (Jvm.Cond.codeWith ({ cls := "LabelDriverLaw", name := "unqueue", desc := "(LLabelDriver;II[J)I" } : Jvm.MethodName) method_34_code (5 : Nat) (Option.some Jvm.ClassFile.FieldType.int) [((0 : Nat), (10 : Nat), (13 : Nat), (25 : Nat)), ((0 : Nat), (10 : Nat), (17 : Nat), (23 : Nat))]) ∈ lw_all := sorry
theorem q1911 : (Jvm.Cond.methodLink "LabelDriverLaw" (115 : Nat) ({ cls := "LabelDriver", name := "unqueue", desc := "(II)I" } : Jvm.MethodName)) ∈ lw_all := sorry
theorem q1920 : (Jvm.Cond.methodLink "LabelDriverLaw" (316 : Nat) ({ cls := "LabelDriverLaw", name := "abandon", desc := "(LLabelDriver;I[J)I" } : Jvm.MethodName)) ∈ lw_all := sorry
theorem q1921 : (Jvm.Cond.static ({ cls := "LabelDriverLaw", name := "abandon", desc := "(LLabelDriver;I[J)I" } : Jvm.MethodName)) ∈ lw_all := sorry
theorem q1922 : (Jvm.Cond.codeWith ({ cls := "LabelDriverLaw", name := "abandon", desc := "(LLabelDriver;I[J)I" } : Jvm.MethodName) method_35_code (4 : Nat) (Option.some Jvm.ClassFile.FieldType.int) [((0 : Nat), (9 : Nat), (12 : Nat), (25 : Nat))]) ∈ lw_all := sorry
theorem q1923 : (Jvm.Cond.methodLink "LabelDriverLaw" (118 : Nat) ({ cls := "LabelDriver", name := "abandon", desc := "(I)I" } : Jvm.MethodName)) ∈ lw_all := sorry
theorem q1927 : (Jvm.Cond.methodLink "LabelDriverLaw" (327 : Nat) ({ cls := "LabelDriverLaw", name := "ribbonLasts", desc := "(LLabelDriver;[J)I" } : Jvm.MethodName)) ∈ lw_all := sorry
theorem q1928 : (Jvm.Cond.static ({ cls := "LabelDriverLaw", name := "ribbonLasts", desc := "(LLabelDriver;[J)I" } : Jvm.MethodName)) ∈ lw_all := sorry
theorem q1929 : (Jvm.Cond.codeWith ({ cls := "LabelDriverLaw", name := "ribbonLasts", desc := "(LLabelDriver;[J)I" } : Jvm.MethodName) method_36_code (3 : Nat) (Option.some Jvm.ClassFile.FieldType.int) [((0 : Nat), (8 : Nat), (11 : Nat), (23 : Nat))]) ∈ lw_all := sorry
theorem q1930 : (Jvm.Cond.methodLink "LabelDriverLaw" (121 : Nat) ({ cls := "LabelDriver", name := "ribbonLasts", desc := "()I" } : Jvm.MethodName)) ∈ lw_all := sorry
theorem q1934 : (Jvm.Cond.methodLink "LabelDriverLaw" (330 : Nat) ({ cls := "LabelDriverLaw", name := "webLasts", desc := "(LLabelDriver;[J)I" } : Jvm.MethodName)) ∈ lw_all := sorry
theorem q1935 : (Jvm.Cond.static ({ cls := "LabelDriverLaw", name := "webLasts", desc := "(LLabelDriver;[J)I" } : Jvm.MethodName)) ∈ lw_all := sorry
theorem q1936 : (Jvm.Cond.codeWith ({ cls := "LabelDriverLaw", name := "webLasts", desc := "(LLabelDriver;[J)I" } : Jvm.MethodName) method_37_code (3 : Nat) (Option.some Jvm.ClassFile.FieldType.int) [((0 : Nat), (8 : Nat), (11 : Nat), (23 : Nat))]) ∈ lw_all := sorry
theorem q1937 : (Jvm.Cond.methodLink "LabelDriverLaw" (124 : Nat) ({ cls := "LabelDriver", name := "webLasts", desc := "()I" } : Jvm.MethodName)) ∈ lw_all := sorry
theorem q1944 : (Jvm.Cond.methodLink "LabelDriverLaw" (341 : Nat) ({ cls := "LabelDriverLaw", name := "total", desc := "(LLabelDriver;I[J)I" } : Jvm.MethodName)) ∈ lw_all := sorry
theorem q1945 : (Jvm.Cond.static ({ cls := "LabelDriverLaw", name := "total", desc := "(LLabelDriver;I[J)I" } : Jvm.MethodName)) ∈ lw_all := sorry
theorem q1946 : (Jvm.Cond.codeWith ({ cls := "LabelDriverLaw", name := "total", desc := "(LLabelDriver;I[J)I" } : Jvm.MethodName) method_38_code (4 : Nat) (Option.some Jvm.ClassFile.FieldType.int) [((0 : Nat), (9 : Nat), (12 : Nat), (58 : Nat))]) ∈ lw_all := sorry
theorem q1947 : (Jvm.Cond.methodLink "LabelDriverLaw" (127 : Nat) ({ cls := "LabelDriver", name := "total", desc := "(I)I" } : Jvm.MethodName)) ∈ lw_all := sorry
theorem q1951 : (Jvm.Cond.methodLink "LabelDriverLaw" (344 : Nat) ({ cls := "LabelDriverLaw", name := "formatSerial", desc := "(LLabelDriver;II[J)I" } : Jvm.MethodName)) ∈ lw_all := sorry
theorem q1952 : (Jvm.Cond.static ({ cls := "LabelDriverLaw", name := "formatSerial", desc := "(LLabelDriver;II[J)I" } : Jvm.MethodName)) ∈ lw_all := sorry
theorem q1953 : (Jvm.Cond.codeWith ({ cls := "LabelDriverLaw", name := "formatSerial", desc := "(LLabelDriver;II[J)I" } : Jvm.MethodName) method_39_code (5 : Nat) (Option.some Jvm.ClassFile.FieldType.int) [((0 : Nat), (10 : Nat), (13 : Nat), (25 : Nat))]) ∈ lw_all := sorry
theorem q1954 : (Jvm.Cond.methodLink "LabelDriverLaw" (130 : Nat) ({ cls := "LabelDriver", name := "formatSerial", desc := "(II)I" } : Jvm.MethodName)) ∈ lw_all := sorry
theorem q2013 : (Jvm.Cond.methodLink "LabelDriverLaw" (347 : Nat) ({ cls := "LabelDriverLaw", name := "formatBatch", desc := "(LLabelDriver;I[J)I" } : Jvm.MethodName)) ∈ lw_all := sorry
theorem q2014 : (Jvm.Cond.static ({ cls := "LabelDriverLaw", name := "formatBatch", desc := "(LLabelDriver;I[J)I" } : Jvm.MethodName)) ∈ lw_all := sorry
theorem q2015 : (Jvm.Cond.codeWith ({ cls := "LabelDriverLaw", name := "formatBatch", desc := "(LLabelDriver;I[J)I" } : Jvm.MethodName) method_40_code (4 : Nat) (Option.some Jvm.ClassFile.FieldType.int) [((0 : Nat), (9 : Nat), (12 : Nat), (25 : Nat))]) ∈ lw_all := sorry
theorem q2016 : (Jvm.Cond.methodLink "LabelDriverLaw" (133 : Nat) ({ cls := "LabelDriver", name := "formatBatch", desc := "(I)I" } : Jvm.MethodName)) ∈ lw_all := sorry
theorem q2024 : (Jvm.Cond.classLink "LabelDriverLaw" (137 : Nat) "LabelDriverModel") ∈ lw_all := sorry
theorem q2026 : (Jvm.Cond.methodLink "LabelDriverLaw" (139 : Nat) ({ cls := "LabelDriverModel", name := "<init>", desc := "()V" } : Jvm.MethodName)) ∈ lw_all := sorry
theorem q2141 : (Jvm.Cond.methodLink "LabelDriverLaw" (155 : Nat) ({ cls := "LabelDriverModel", name := "thrown", desc := "()I" } : Jvm.MethodName)) ∈ lw_all := sorry
theorem q2145 : (Jvm.Cond.methodLink "LabelDriverLaw" (143 : Nat) ({ cls := "LabelDriverModel", name := "append", desc := "(IIIII)I" } : Jvm.MethodName)) ∈ lw_all := sorry
theorem q2149 : (Jvm.Cond.methodLink "LabelDriverLaw" (148 : Nat) ({ cls := "LabelDriverModel", name := "truncate", desc := "(I)Z" } : Jvm.MethodName)) ∈ lw_all := sorry
theorem q2153 : (Jvm.Cond.methodLink "LabelDriverLaw" (154 : Nat) ({ cls := "LabelDriverModel", name := "load", desc := "()I" } : Jvm.MethodName)) ∈ lw_all := sorry
theorem q2237 : (Jvm.Cond.methodLink "LabelDriverLaw" (161 : Nat) ({ cls := "LabelDriverModel", name := "errorOffset", desc := "()I" } : Jvm.MethodName)) ∈ lw_all := sorry
theorem q2241 : (Jvm.Cond.methodLink "LabelDriverLaw" (165 : Nat) ({ cls := "LabelDriverModel", name := "errorKind", desc := "()I" } : Jvm.MethodName)) ∈ lw_all := sorry
theorem q2245 : (Jvm.Cond.methodLink "LabelDriverLaw" (322 : Nat) ({ cls := "LabelDriverModel", name := "undo", desc := "()I" } : Jvm.MethodName)) ∈ lw_all := sorry
theorem q2257 : (Jvm.Cond.methodLink "LabelDriverLaw" (326 : Nat) ({ cls := "LabelDriverModel", name := "undoDepth", desc := "()I" } : Jvm.MethodName)) ∈ lw_all := sorry
theorem q2261 : (Jvm.Cond.methodLink "LabelDriverLaw" (169 : Nat) ({ cls := "LabelDriverModel", name := "mountRoll", desc := "(IIIII)I" } : Jvm.MethodName)) ∈ lw_all := sorry
theorem q2273 : (Jvm.Cond.methodLink "LabelDriverLaw" (173 : Nat) ({ cls := "LabelDriverModel", name := "stretch", desc := "(II)I" } : Jvm.MethodName)) ∈ lw_all := sorry
theorem q2281 : (Jvm.Cond.methodLink "LabelDriverLaw" (177 : Nat) ({ cls := "LabelDriverModel", name := "mountRibbon", desc := "(I)I" } : Jvm.MethodName)) ∈ lw_all := sorry
theorem q2286 : (Jvm.Cond.methodLink "LabelDriverLaw" (181 : Nat) ({ cls := "LabelDriverModel", name := "ribbonLeft", desc := "()I" } : Jvm.MethodName)) ∈ lw_all := sorry
theorem q2290 : (Jvm.Cond.methodLink "LabelDriverLaw" (184 : Nat) ({ cls := "LabelDriverModel", name := "position", desc := "()I" } : Jvm.MethodName)) ∈ lw_all := sorry
theorem q2294 : (Jvm.Cond.methodLink "LabelDriverLaw" (187 : Nat) ({ cls := "LabelDriverModel", name := "webEnd", desc := "()I" } : Jvm.MethodName)) ∈ lw_all := sorry
theorem q2298 : (Jvm.Cond.methodLink "LabelDriverLaw" (190 : Nat) ({ cls := "LabelDriverModel", name := "labelBegin", desc := "(I)I" } : Jvm.MethodName)) ∈ lw_all := sorry
theorem q2302 : (Jvm.Cond.methodLink "LabelDriverLaw" (193 : Nat) ({ cls := "LabelDriverModel", name := "lightAt", desc := "(I)I" } : Jvm.MethodName)) ∈ lw_all := sorry
theorem q2314 : (Jvm.Cond.methodLink "LabelDriverLaw" (196 : Nat) ({ cls := "LabelDriverModel", name := "labelUnderHead", desc := "()I" } : Jvm.MethodName)) ∈ lw_all := sorry
theorem q2318 : (Jvm.Cond.methodLink "LabelDriverLaw" (199 : Nat) ({ cls := "LabelDriverModel", name := "feed", desc := "(I)I" } : Jvm.MethodName)) ∈ lw_all := sorry
theorem q2329 : (Jvm.Cond.methodLink "LabelDriverLaw" (202 : Nat) ({ cls := "LabelDriverModel", name := "feedToForm", desc := "()I" } : Jvm.MethodName)) ∈ lw_all := sorry
theorem q2337 : (Jvm.Cond.methodLink "LabelDriverLaw" (205 : Nat) ({ cls := "LabelDriverModel", name := "learn", desc := "()I" } : Jvm.MethodName)) ∈ lw_all := sorry
theorem q2372 : (Jvm.Cond.methodLink "LabelDriverLaw" (210 : Nat) ({ cls := "LabelDriverModel", name := "isReady", desc := "()Z" } : Jvm.MethodName)) ∈ lw_all := sorry
theorem q2376 : (Jvm.Cond.methodLink "LabelDriverLaw" (213 : Nat) ({ cls := "LabelDriverModel", name := "learned", desc := "(I)I" } : Jvm.MethodName)) ∈ lw_all := sorry
theorem q2380 : (Jvm.Cond.methodLink "LabelDriverLaw" (216 : Nat) ({ cls := "LabelDriverModel", name := "gapsSeen", desc := "()I" } : Jvm.MethodName)) ∈ lw_all := sorry
theorem q2384 : (Jvm.Cond.methodLink "LabelDriverLaw" (219 : Nat) ({ cls := "LabelDriverModel", name := "seenTo", desc := "()I" } : Jvm.MethodName)) ∈ lw_all := sorry
theorem q2388 : (Jvm.Cond.methodLink "LabelDriverLaw" (222 : Nat) ({ cls := "LabelDriverModel", name := "backfeed", desc := "()I" } : Jvm.MethodName)) ∈ lw_all := sorry
theorem q2392 : (Jvm.Cond.methodLink "LabelDriverLaw" (225 : Nat) ({ cls := "LabelDriverModel", name := "nextGap", desc := "(I)I" } : Jvm.MethodName)) ∈ lw_all := sorry
theorem q2396 : (Jvm.Cond.methodLink "LabelDriverLaw" (229 : Nat) ({ cls := "LabelDriverModel", name := "lastShift", desc := "()I" } : Jvm.MethodName)) ∈ lw_all := sorry
theorem q2400 : (Jvm.Cond.methodLink "LabelDriverLaw" (232 : Nat) ({ cls := "LabelDriverModel", name := "tearPlace", desc := "()I" } : Jvm.MethodName)) ∈ lw_all := sorry
theorem q2408 : (Jvm.Cond.methodLink "LabelDriverLaw" (235 : Nat) ({ cls := "LabelDriverModel", name := "batchField", desc := "(II)I" } : Jvm.MethodName)) ∈ lw_all := sorry
theorem q2416 : (Jvm.Cond.methodLink "LabelDriverLaw" (238 : Nat) ({ cls := "LabelDriverModel", name := "number", desc := "(II)I" } : Jvm.MethodName)) ∈ lw_all := sorry
theorem q2431 : (Jvm.Cond.methodLink "LabelDriverLaw" (241 : Nat) ({ cls := "LabelDriverModel", name := "checkDigit", desc := "(II)I" } : Jvm.MethodName)) ∈ lw_all := sorry
theorem q2438 : (Jvm.Cond.methodLink "LabelDriverLaw" (244 : Nat) ({ cls := "LabelDriverModel", name := "stateOf", desc := "(II)I" } : Jvm.MethodName)) ∈ lw_all := sorry
theorem q2442 : (Jvm.Cond.methodLink "LabelDriverLaw" (247 : Nat) ({ cls := "LabelDriverModel", name := "attempts", desc := "(II)I" } : Jvm.MethodName)) ∈ lw_all := sorry
theorem q2446 : (Jvm.Cond.methodLink "LabelDriverLaw" (250 : Nat) ({ cls := "LabelDriverModel", name := "countOf", desc := "(II)I" } : Jvm.MethodName)) ∈ lw_all := sorry
theorem q2454 : (Jvm.Cond.methodLink "LabelDriverLaw" (254 : Nat) ({ cls := "LabelDriverModel", name := "mostAttempts", desc := "()I" } : Jvm.MethodName)) ∈ lw_all := sorry
theorem q2465 : (Jvm.Cond.methodLink "LabelDriverLaw" (258 : Nat) ({ cls := "LabelDriverModel", name := "reprints", desc := "()I" } : Jvm.MethodName)) ∈ lw_all := sorry
theorem q2469 : (Jvm.Cond.methodLink "LabelDriverLaw" (262 : Nat) ({ cls := "LabelDriverModel", name := "reprint", desc := "(I)I" } : Jvm.MethodName)) ∈ lw_all := sorry
theorem q2473 : (Jvm.Cond.methodLink "LabelDriverLaw" (266 : Nat) ({ cls := "LabelDriverModel", name := "nextSerial", desc := "()I" } : Jvm.MethodName)) ∈ lw_all := sorry
theorem q2481 : (Jvm.Cond.methodLink "LabelDriverLaw" (269 : Nat) ({ cls := "LabelDriverModel", name := "printedAs", desc := "(I)I" } : Jvm.MethodName)) ∈ lw_all := sorry
theorem q2485 : (Jvm.Cond.methodLink "LabelDriverLaw" (273 : Nat) ({ cls := "LabelDriverModel", name := "verify", desc := "(III)I" } : Jvm.MethodName)) ∈ lw_all := sorry
theorem q2489 : (Jvm.Cond.methodLink "LabelDriverLaw" (277 : Nat) ({ cls := "LabelDriverModel", name := "doubles", desc := "()I" } : Jvm.MethodName)) ∈ lw_all := sorry
theorem q2493 : (Jvm.Cond.methodLink "LabelDriverLaw" (280 : Nat) ({ cls := "LabelDriverModel", name := "run", desc := "(I)I" } : Jvm.MethodName)) ∈ lw_all := sorry
theorem q2525 : (Jvm.Cond.methodLink "LabelDriverLaw" (283 : Nat) ({ cls := "LabelDriverModel", name := "wouldRun", desc := "(II)I" } : Jvm.MethodName)) ∈ lw_all := sorry
theorem q2529 : (Jvm.Cond.methodLink "LabelDriverLaw" (287 : Nat) ({ cls := "LabelDriverModel", name := "logCount", desc := "()I" } : Jvm.MethodName)) ∈ lw_all := sorry
theorem q2533 : (Jvm.Cond.methodLink "LabelDriverLaw" (290 : Nat) ({ cls := "LabelDriverModel", name := "logField", desc := "(II)I" } : Jvm.MethodName)) ∈ lw_all := sorry
theorem q2537 : (Jvm.Cond.methodLink "LabelDriverLaw" (294 : Nat) ({ cls := "LabelDriverModel", name := "printingAt", desc := "(I)I" } : Jvm.MethodName)) ∈ lw_all := sorry
theorem q2541 : (Jvm.Cond.methodLink "LabelDriverLaw" (298 : Nat) ({ cls := "LabelDriverModel", name := "longestRow", desc := "()I" } : Jvm.MethodName)) ∈ lw_all := sorry
theorem q2545 : (Jvm.Cond.methodLink "LabelDriverLaw" (302 : Nat) ({ cls := "LabelDriverModel", name := "trouble", desc := "()I" } : Jvm.MethodName)) ∈ lw_all := sorry
theorem q2549 : (Jvm.Cond.methodLink "LabelDriverLaw" (306 : Nat) ({ cls := "LabelDriverModel", name := "causeOfTrouble", desc := "()I" } : Jvm.MethodName)) ∈ lw_all := sorry
theorem q2553 : (Jvm.Cond.methodLink "LabelDriverLaw" (309 : Nat) ({ cls := "LabelDriverModel", name := "makeVoid", desc := "(II)I" } : Jvm.MethodName)) ∈ lw_all := sorry
theorem q2557 : (Jvm.Cond.methodLink "LabelDriverLaw" (312 : Nat) ({ cls := "LabelDriverModel", name := "requeue", desc := "(II)I" } : Jvm.MethodName)) ∈ lw_all := sorry
theorem q2565 : (Jvm.Cond.methodLink "LabelDriverLaw" (315 : Nat) ({ cls := "LabelDriverModel", name := "unqueue", desc := "(II)I" } : Jvm.MethodName)) ∈ lw_all := sorry
theorem q2569 : (Jvm.Cond.methodLink "LabelDriverLaw" (318 : Nat) ({ cls := "LabelDriverModel", name := "abandon", desc := "(I)I" } : Jvm.MethodName)) ∈ lw_all := sorry
theorem q2573 : (Jvm.Cond.methodLink "LabelDriverLaw" (329 : Nat) ({ cls := "LabelDriverModel", name := "ribbonLasts", desc := "()I" } : Jvm.MethodName)) ∈ lw_all := sorry
theorem q2577 : (Jvm.Cond.methodLink "LabelDriverLaw" (332 : Nat) ({ cls := "LabelDriverModel", name := "webLasts", desc := "()I" } : Jvm.MethodName)) ∈ lw_all := sorry
theorem q2581 : (Jvm.Cond.methodLink "LabelDriverLaw" (336 : Nat) ({ cls := "LabelDriverModel", name := "toPrint", desc := "()I" } : Jvm.MethodName)) ∈ lw_all := sorry
theorem q2585 : (Jvm.Cond.methodLink "LabelDriverLaw" (340 : Nat) ({ cls := "LabelDriverModel", name := "yieldPercent", desc := "()I" } : Jvm.MethodName)) ∈ lw_all := sorry
theorem q2589 : (Jvm.Cond.methodLink "LabelDriverLaw" (343 : Nat) ({ cls := "LabelDriverModel", name := "total", desc := "(I)I" } : Jvm.MethodName)) ∈ lw_all := sorry
theorem q2593 : (Jvm.Cond.methodLink "LabelDriverLaw" (346 : Nat) ({ cls := "LabelDriverModel", name := "formatSerial", desc := "(II)I" } : Jvm.MethodName)) ∈ lw_all := sorry
theorem q2610 : (Jvm.Cond.methodLink "LabelDriverLaw" (349 : Nat) ({ cls := "LabelDriverModel", name := "formatBatch", desc := "(I)I" } : Jvm.MethodName)) ∈ lw_all := sorry
theorem q2614 : (Jvm.Cond.methodLink "LabelDriverLaw" (353 : Nat) ({ cls := "LabelDriverModel", name := "formattedByte", desc := "(I)I" } : Jvm.MethodName)) ∈ lw_all := sorry
