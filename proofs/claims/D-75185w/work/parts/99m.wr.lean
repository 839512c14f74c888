set_option maxRecDepth 100000
theorem DW_drv {X : xT} {d : Nat} {m : MV} {w : va_W} (h : DW X d m w) : ∃ (q0 : Nat) (fs : List Value), w[q0]? = some (d, .inr (1, fs)) := sorry
abbrev outC (X : xT) (o : Nat) (g : Nat → Int64) : Nat × va_E := (o, .inl (xY X 1, 1, .inr (.inl g)))
theorem g_lastE {X : xT} {g : gT} {cc : ByteArray} {nL n k : Nat} {own : String} {ret : Option FieldType} {rm : Room} {w : va_W} {pc : Nat} {lv : List (Nat × Value)} {st : List Value} {o : Nat} {u : Nat → Int64} {x : Int64} (C : GC X g cc nL own ret rm) (d : decode cc pc = .ok (.lastore, 1)) (kk : G X g nL n k (w ++ [outC X o (vp_updL u 0 x)]) (pc + 1) lv st) : G X g nL n k (w ++ [outC X o u]) pc lv (.long x :: .int 0 :: .ref o :: st) := sorry
/-- what a wrapper leaves -/
def lwQ (X : xT) (d o : Nat) (p : Int32 × MV) : Option Value → va_W → Prop := fun r w => r = some (.int (p.2.1 0 0)) ∧ ∃ (wd : va_W) (g : Nat → Int64), DW X d p.2 wd ∧ (p.2.1 0 0 = 0 → g 0 = p.1.toInt64) ∧ w = wd ++ [outC X o g]
set_option maxHeartbeats 4000000 in
theorem L_position {X : xT} {d o : Nat} {m : MV} {w : va_W} {u : Nat → Int64} (h : DW X d m w) : MetX X yX0_position (.codeWith yX0_position cX0_position 3 (some .int) [(0, 8, 11, 23)]) (rmC 13 2 12) 2 12 [.ref d, .ref o] (w ++ [outC X o u]) (lwQ X d o (p_position m)) (fun _ _ _ => False) := sorry
set_option maxHeartbeats 4000000 in
theorem L_webEnd {X : xT} {d o : Nat} {m : MV} {w : va_W} {u : Nat → Int64} (h : DW X d m w) : MetX X yX0_webEnd (.codeWith yX0_webEnd cX0_webEnd 3 (some .int) [(0, 8, 11, 23)]) (rmC 13 2 12) 2 12 [.ref d, .ref o] (w ++ [outC X o u]) (lwQ X d o (p_webEnd m)) (fun _ _ _ => False) := sorry
set_option maxHeartbeats 4000000 in
theorem L_labelBegin {X : xT} {d o : Nat} {m : MV} {w : va_W} {u : Nat → Int64} (a1 : Int32) (h : DW X d m w) : MetX X yX0_labelBegin (.codeWith yX0_labelBegin cX0_labelBegin 4 (some .int) [(0, 9, 12, 23), (0, 9, 15, 25)]) (rmC 13 2 12) 2 12 [.ref d, .int a1, .ref o] (w ++ [outC X o u]) (lwQ X d o (p_labelBegin m a1)) (fun _ _ _ => False) := sorry
set_option maxHeartbeats 4000000 in
theorem L_lightAt {X : xT} {d o : Nat} {m : MV} {w : va_W} {u : Nat → Int64} (a1 : Int32) (h : DW X d m w) : MetX X yX0_lightAt (.codeWith yX0_lightAt cX0_lightAt 4 (some .int) [(0, 9, 12, 23)]) (rmC 13 2 12) 2 12 [.ref d, .int a1, .ref o] (w ++ [outC X o u]) (lwQ X d o (p_lightAt m a1)) (fun _ _ _ => False) := sorry
set_option maxHeartbeats 4000000 in
theorem L_labelUnderHead {X : xT} {d o : Nat} {m : MV} {w : va_W} {u : Nat → Int64} (h : DW X d m w) : MetX X yX0_labelUnderHead (.codeWith yX0_labelUnderHead cX0_labelUnderHead 3 (some .int) [(0, 8, 11, 23)]) (rmC 13 2 12) 2 12 [.ref d, .ref o] (w ++ [outC X o u]) (lwQ X d o (p_labelUnderHead m)) (fun _ _ _ => False) := sorry
set_option maxHeartbeats 4000000 in
theorem L_learned {X : xT} {d o : Nat} {m : MV} {w : va_W} {u : Nat → Int64} (a1 : Int32) (h : DW X d m w) : MetX X yX0_learned (.codeWith yX0_learned cX0_learned 4 (some .int) [(0, 9, 12, 23), (0, 9, 15, 58)]) (rmC 13 2 12) 2 12 [.ref d, .int a1, .ref o] (w ++ [outC X o u]) (lwQ X d o (p_learned m a1)) (fun _ _ _ => False) := sorry
set_option maxHeartbeats 4000000 in
theorem L_gapsSeen {X : xT} {d o : Nat} {m : MV} {w : va_W} {u : Nat → Int64} (h : DW X d m w) : MetX X yX0_gapsSeen (.codeWith yX0_gapsSeen cX0_gapsSeen 3 (some .int) [(0, 8, 11, 23)]) (rmC 13 210 240) 210 240 [.ref d, .ref o] (w ++ [outC X o u]) (lwQ X d o (p_gapsSeen m)) (fun _ _ _ => False) := sorry
set_option maxHeartbeats 4000000 in
theorem L_seenTo {X : xT} {d o : Nat} {m : MV} {w : va_W} {u : Nat → Int64} (h : DW X d m w) : MetX X yX0_seenTo (.codeWith yX0_seenTo cX0_seenTo 3 (some .int) [(0, 8, 11, 23)]) (rmC 13 2 12) 2 12 [.ref d, .ref o] (w ++ [outC X o u]) (lwQ X d o (p_seenTo m)) (fun _ _ _ => False) := sorry
set_option maxHeartbeats 4000000 in
theorem L_backfeed {X : xT} {d o : Nat} {m : MV} {w : va_W} {u : Nat → Int64} (h : DW X d m w) : MetX X yX0_backfeed (.codeWith yX0_backfeed cX0_backfeed 3 (some .int) [(0, 8, 11, 23)]) (rmC 13 2 12) 2 12 [.ref d, .ref o] (w ++ [outC X o u]) (lwQ X d o (p_backfeed m)) (fun _ _ _ => False) := sorry
set_option maxHeartbeats 4000000 in
theorem L_nextGap {X : xT} {d o : Nat} {m : MV} {w : va_W} {u : Nat → Int64} (a1 : Int32) (h : DW X d m w) : MetX X yX0_nextGap (.codeWith yX0_nextGap cX0_nextGap 4 (some .int) [(0, 9, 12, 23)]) (rmC 13 5 20) 5 20 [.ref d, .int a1, .ref o] (w ++ [outC X o u]) (lwQ X d o (p_nextGap m a1)) (fun _ _ _ => False) := sorry
set_option maxHeartbeats 4000000 in
theorem L_tearPlace {X : xT} {d o : Nat} {m : MV} {w : va_W} {u : Nat → Int64} (h : DW X d m w) : MetX X yX0_tearPlace (.codeWith yX0_tearPlace cX0_tearPlace 3 (some .int) [(0, 8, 11, 23)]) (rmC 13 2 12) 2 12 [.ref d, .ref o] (w ++ [outC X o u]) (lwQ X d o (p_tearPlace m)) (fun _ _ _ => False) := sorry
set_option maxHeartbeats 4000000 in
theorem L_batchField {X : xT} {d o : Nat} {m : MV} {w : va_W} {u : Nat → Int64} (a1 : Int32) (a2 : Int32) (h : DW X d m w) : MetX X yX0_batchField (.codeWith yX0_batchField cX0_batchField 5 (some .int) [(0, 10, 13, 25), (0, 10, 17, 58)]) (rmC 13 2 12) 2 12 [.ref d, .int a1, .int a2, .ref o] (w ++ [outC X o u]) (lwQ X d o (p_batchField m a1 a2)) (fun _ _ _ => False) := sorry
set_option maxHeartbeats 4000000 in
theorem L_number {X : xT} {d o : Nat} {m : MV} {w : va_W} {u : Nat → Int64} (a1 : Int32) (a2 : Int32) (h : DW X d m w) : MetX X yX0_number (.codeWith yX0_number cX0_number 5 (some .int) [(0, 10, 13, 25)]) (rmC 13 3 18) 3 18 [.ref d, .int a1, .int a2, .ref o] (w ++ [outC X o u]) (lwQ X d o (p_number m a1 a2)) (fun _ _ _ => False) := sorry
set_option maxHeartbeats 4000000 in
theorem L_checkDigit {X : xT} {d o : Nat} {m : MV} {w : va_W} {u : Nat → Int64} (a1 : Int32) (a2 : Int32) (h : DW X d m w) : MetX X yX0_checkDigit (.codeWith yX0_checkDigit cX0_checkDigit 5 (some .int) [(0, 10, 13, 25)]) (rmC 13 3 18) 3 18 [.ref d, .int a1, .int a2, .ref o] (w ++ [outC X o u]) (lwQ X d o (p_checkDigit m a1 a2)) (fun _ _ _ => False) := sorry
set_option maxHeartbeats 4000000 in
theorem L_stateOf {X : xT} {d o : Nat} {m : MV} {w : va_W} {u : Nat → Int64} (a1 : Int32) (a2 : Int32) (h : DW X d m w) : MetX X yX0_stateOf (.codeWith yX0_stateOf cX0_stateOf 5 (some .int) [(0, 10, 13, 25)]) (rmC 13 2 12) 2 12 [.ref d, .int a1, .int a2, .ref o] (w ++ [outC X o u]) (lwQ X d o (p_stateOf m a1 a2)) (fun _ _ _ => False) := sorry
set_option maxHeartbeats 4000000 in
theorem L_attempts {X : xT} {d o : Nat} {m : MV} {w : va_W} {u : Nat → Int64} (a1 : Int32) (a2 : Int32) (h : DW X d m w) : MetX X yX0_attempts (.codeWith yX0_attempts cX0_attempts 5 (some .int) [(0, 10, 13, 25)]) (rmC 13 2 12) 2 12 [.ref d, .int a1, .int a2, .ref o] (w ++ [outC X o u]) (lwQ X d o (p_attempts m a1 a2)) (fun _ _ _ => False) := sorry
set_option maxHeartbeats 4000000 in
theorem L_countOf {X : xT} {d o : Nat} {m : MV} {w : va_W} {u : Nat → Int64} (a1 : Int32) (a2 : Int32) (h : DW X d m w) : MetX X yX0_countOf (.codeWith yX0_countOf cX0_countOf 5 (some .int) [(0, 10, 13, 25), (0, 10, 17, 13)]) (rmC 13 43 258) 43 258 [.ref d, .int a1, .int a2, .ref o] (w ++ [outC X o u]) (lwQ X d o (p_countOf m a1 a2)) (fun _ _ _ => False) := sorry
set_option maxHeartbeats 4000000 in
theorem L_printedAs {X : xT} {d o : Nat} {m : MV} {w : va_W} {u : Nat → Int64} (a1 : Int32) (h : DW X d m w) : MetX X yX0_printedAs (.codeWith yX0_printedAs cX0_printedAs 4 (some .int) [(0, 9, 12, 13)]) (rmC 13 3 18) 3 18 [.ref d, .int a1, .ref o] (w ++ [outC X o u]) (lwQ X d o (p_printedAs m a1)) (fun _ _ _ => False) := sorry
set_option maxHeartbeats 4000000 in
theorem L_verify {X : xT} {d o : Nat} {m : MV} {w : va_W} {u : Nat → Int64} (a1 : Int32) (a2 : Int32) (a3 : Int32) (h : DW X d m w) : MetX X yX0_verify (.codeWith yX0_verify cX0_verify 6 (some .int) [(0, 12, 15, 25)]) (rmC 13 2 12) 2 12 [.ref d, .int a1, .int a2, .int a3, .ref o] (w ++ [outC X o u]) (lwQ X d o (p_verify m a1 a2 a3)) (fun _ _ _ => False) := sorry
set_option maxHeartbeats 4000000 in
theorem L_logField {X : xT} {d o : Nat} {m : MV} {w : va_W} {u : Nat → Int64} (a1 : Int32) (a2 : Int32) (h : DW X d m w) : MetX X yX0_logField (.codeWith yX0_logField cX0_logField 5 (some .int) [(0, 10, 13, 58)]) (rmC 13 2 12) 2 12 [.ref d, .int a1, .int a2, .ref o] (w ++ [outC X o u]) (lwQ X d o (p_logField m a1 a2)) (fun _ _ _ => False) := sorry
set_option maxHeartbeats 4000000 in
theorem L_ribbonLasts {X : xT} {d o : Nat} {m : MV} {w : va_W} {u : Nat → Int64} (h : DW X d m w) : MetX X yX0_ribbonLasts (.codeWith yX0_ribbonLasts cX0_ribbonLasts 3 (some .int) [(0, 8, 11, 23)]) (rmC 13 2 12) 2 12 [.ref d, .ref o] (w ++ [outC X o u]) (lwQ X d o (p_ribbonLasts m)) (fun _ _ _ => False) := sorry
set_option maxHeartbeats 4000000 in
theorem L_webLasts {X : xT} {d o : Nat} {m : MV} {w : va_W} {u : Nat → Int64} (h : DW X d m w) : MetX X yX0_webLasts (.codeWith yX0_webLasts cX0_webLasts 3 (some .int) [(0, 8, 11, 23)]) (rmC 13 3 15) 3 15 [.ref d, .ref o] (w ++ [outC X o u]) (lwQ X d o (p_webLasts m)) (fun _ _ _ => False) := sorry
set_option maxHeartbeats 4000000 in
theorem L_total {X : xT} {d o : Nat} {m : MV} {w : va_W} {u : Nat → Int64} (a1 : Int32) (h : DW X d m w) : MetX X yX0_total (.codeWith yX0_total cX0_total 4 (some .int) [(0, 9, 12, 58)]) (rmC 13 2 12) 2 12 [.ref d, .int a1, .ref o] (w ++ [outC X o u]) (lwQ X d o (p_total m a1)) (fun _ _ _ => False) := sorry
