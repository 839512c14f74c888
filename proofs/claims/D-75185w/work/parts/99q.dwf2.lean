set_option maxRecDepth 100000
theorem c9_fr {X : xT} {m u : MV} {ad : Nat → Nat} {f fp fa : Nat → Option Nat} {mc_ ml : Int32} {vf : Nat → Int32} {ct : Nat} (h10 : u.1 10 0 = m.1 10 0) (h19 : u.1 19 = m.1 19) : c9 X u ad f fp fa mc_ ml vf ct = c9 X m ad f fp fa mc_ ml vf ct := sorry
theorem nmR_sub {X : xT} {P Q : va_W} {m : MV} {b n bs ln : Nat} {sf : Nat → Int32} (h : nmR X P m b n bs ln sf) (hs : ∀ c ∈ P, c ∈ Q) : nmR X Q m b n bs ln sf := sorry
theorem op_formatSerial {m : MV} {a1 a2 : Int32} (h : ¬ p_isSerial m a1 a2 = 0) : ∃ l : List Int32, (p_formatSerial m a1 a2).2 = ptL (up (up m 0 0 0) 35 0 0) l := sorry
theorem fmt_0 {p : Int32 × MV} {m : MV} (h : ∃ l : List Int32, p.2 = ptL (up (up m 0 0 0) 35 0 0) l) : p.2.1 0 0 = 0 := sorry
theorem op_formatBatch {m : MV} {a1 : Int32} (h : ¬ p_isBatch m a1 = 0) : ∃ l : List Int32, (p_formatBatch m a1).2 = ptL (up (up m 0 0 0) 35 0 0) l := sorry
set_option maxHeartbeats 4000000 in
theorem D_formatSerial {X : xT} {d : Nat} {m : MV} {w : va_W} (a1 a2 : Int32) (h : DW X d m w) : MetX X yX1_formatSerial (.code yX1_formatSerial cX1_formatSerial 6 (some .int)) (rmC 14 60 9000) 60 9000 [.ref d, .int a1, .int a2] w (rdQ X d (p_formatSerial m a1 a2)) (rdT X d exI (p_formatSerial m a1 a2)) := sorry
set_option maxHeartbeats 4000000 in
theorem D_formatBatch {X : xT} {d : Nat} {m : MV} {w : va_W} (a1 : Int32) (h : DW X d m w) : MetX X yX1_formatBatch (.code yX1_formatBatch cX1_formatBatch 5 (some .int)) (rmC 14 260 21000) 260 21000 [.ref d, .int a1] w (rdQ X d (p_formatBatch m a1)) (rdT X d exI (p_formatBatch m a1)) := sorry
theorem D_formattedByte {X : xT} {d : Nat} {m : MV} {w : va_W} (a1 : Int32) (h : DW X d m w) : MetX X yX1_formattedByte (.code yX1_formattedByte cX1_formattedByte 2 (some .int)) (rmC 6 0 0) 0 0 [.ref d, .int a1] w (rdQ X d (p_formattedByte m a1)) (rdT X d ex0 (p_formattedByte m a1)) := sorry
