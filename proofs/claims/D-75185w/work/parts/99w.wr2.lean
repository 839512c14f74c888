set_option maxRecDepth 100000
theorem load_0 {m : MV} (h : inN (m.1 20 0) 0 600) (hf : p_failed (p_parse (up m 0 0 0)) = 0) : (p_load m).2.1 0 0 = 0 := sorry
set_option maxHeartbeats 4000000 in
theorem L_load {X : xT} {d o : Nat} {m : MV} {w : va_W} {u : Nat → Int64} (h : DW X d m w) : MetX X yX0_load (.codeWith yX0_load cX0_load 3 (some .int) [(0, 8, 11, 13)]) (rmC 19 4330 60700) 4330 60700 [.ref d, .ref o] (w ++ [outC X o u]) (lwQ X d o (p_load m)) (fun _ _ _ => False) := sorry
set_option maxHeartbeats 4000000 in
theorem L_mountRoll {X : xT} {d o : Nat} {m : MV} {w : va_W} {u : Nat → Int64} (a1 : Int32) (a2 : Int32) (a3 : Int32) (a4 : Int32) (a5 : Int32) (h : DW X d m w) : MetX X yX0_mountRoll (.codeWith yX0_mountRoll cX0_mountRoll 8 (some .int) [(0, 16, 19, 13)]) (rmC 15 430 2760) 430 2760 [.ref d, .int a1, .int a2, .int a3, .int a4, .int a5, .ref o] (w ++ [outC X o u]) (lwQ X d o (p_mountRoll m a1 a2 a3 a4 a5)) (fun _ _ _ => False) := sorry
set_option maxHeartbeats 4000000 in
theorem L_stretch {X : xT} {d o : Nat} {m : MV} {w : va_W} {u : Nat → Int64} (a1 : Int32) (a2 : Int32) (h : DW X d m w) : MetX X yX0_stretch (.codeWith yX0_stretch cX0_stretch 5 (some .int) [(0, 10, 13, 23), (0, 10, 17, 25), (0, 10, 21, 13)]) (rmC 15 430 2660) 430 2660 [.ref d, .int a1, .int a2, .ref o] (w ++ [outC X o u]) (lwQ X d o (p_stretch m a1 a2)) (fun _ _ _ => False) := sorry
set_option maxHeartbeats 4000000 in
theorem L_mountRibbon {X : xT} {d o : Nat} {m : MV} {w : va_W} {u : Nat → Int64} (a1 : Int32) (h : DW X d m w) : MetX X yX0_mountRibbon (.codeWith yX0_mountRibbon cX0_mountRibbon 4 (some .int) [(0, 9, 12, 13)]) (rmC 15 425 2640) 425 2640 [.ref d, .int a1, .ref o] (w ++ [outC X o u]) (lwQ X d o (p_mountRibbon m a1)) (fun _ _ _ => False) := sorry
set_option maxHeartbeats 4000000 in
theorem L_feed {X : xT} {d o : Nat} {m : MV} {w : va_W} {u : Nat → Int64} (a1 : Int32) (h : DW X d m w) : MetX X yX0_feed (.codeWith yX0_feed cX0_feed 4 (some .int) [(0, 9, 12, 23), (0, 9, 15, 13)]) (rmC 15 425 2640) 425 2640 [.ref d, .int a1, .ref o] (w ++ [outC X o u]) (lwQ X d o (p_feed m a1)) (fun _ _ _ => False) := sorry
set_option maxHeartbeats 4000000 in
theorem L_feedToForm {X : xT} {d o : Nat} {m : MV} {w : va_W} {u : Nat → Int64} (h : DW X d m w) : MetX X yX0_feedToForm (.codeWith yX0_feedToForm cX0_feedToForm 3 (some .int) [(0, 8, 11, 23)]) (rmC 15 425 2640) 425 2640 [.ref d, .ref o] (w ++ [outC X o u]) (lwQ X d o (p_feedToForm m)) (fun _ _ _ => False) := sorry
set_option maxHeartbeats 4000000 in
theorem L_learn {X : xT} {d o : Nat} {m : MV} {w : va_W} {u : Nat → Int64} (h : DW X d m w) : MetX X yX0_learn (.codeWith yX0_learn cX0_learn 3 (some .int) [(0, 8, 11, 23)]) (rmC 15 1130 3360) 1130 3360 [.ref d, .ref o] (w ++ [outC X o u]) (lwQ X d o (p_learn m)) (fun _ _ _ => False) := sorry
set_option maxHeartbeats 4000000 in
theorem L_run {X : xT} {d o : Nat} {m : MV} {w : va_W} {u : Nat → Int64} (a1 : Int32) (h : DW X d m w) : MetX X yX0_run (.codeWith yX0_run cX0_run 4 (some .int) [(0, 9, 12, 13), (0, 9, 15, 23)]) (rmC 15 870 41700) 870 41700 [.ref d, .int a1, .ref o] (w ++ [outC X o u]) (lwQ X d o (p_run m a1)) (fun _ _ _ => False) := sorry
set_option maxHeartbeats 4000000 in
theorem L_wouldRun {X : xT} {d o : Nat} {m : MV} {w : va_W} {u : Nat → Int64} (a1 : Int32) (a2 : Int32) (h : DW X d m w) : MetX X yX0_wouldRun (.codeWith yX0_wouldRun cX0_wouldRun 5 (some .int) [(0, 10, 13, 13), (0, 10, 17, 23), (0, 10, 21, 58)]) (rmC 15 880 41800) 880 41800 [.ref d, .int a1, .int a2, .ref o] (w ++ [outC X o u]) (lwQ X d o (p_wouldRun m a1 a2)) (fun _ _ _ => False) := sorry
set_option maxHeartbeats 4000000 in
theorem L_makeVoid {X : xT} {d o : Nat} {m : MV} {w : va_W} {u : Nat → Int64} (a1 : Int32) (a2 : Int32) (h : DW X d m w) : MetX X yX0_makeVoid (.codeWith yX0_makeVoid cX0_makeVoid 5 (some .int) [(0, 10, 13, 25), (0, 10, 17, 23)]) (rmC 15 480 2900) 480 2900 [.ref d, .int a1, .int a2, .ref o] (w ++ [outC X o u]) (lwQ X d o (p_makeVoid m a1 a2)) (fun _ _ _ => False) := sorry
set_option maxHeartbeats 4000000 in
theorem L_requeue {X : xT} {d o : Nat} {m : MV} {w : va_W} {u : Nat → Int64} (a1 : Int32) (a2 : Int32) (h : DW X d m w) : MetX X yX0_requeue (.codeWith yX0_requeue cX0_requeue 5 (some .int) [(0, 10, 13, 25), (0, 10, 17, 23)]) (rmC 15 440 3600) 440 3600 [.ref d, .int a1, .int a2, .ref o] (w ++ [outC X o u]) (lwQ X d o (p_requeue m a1 a2)) (fun _ _ _ => False) := sorry
set_option maxHeartbeats 4000000 in
theorem L_unqueue {X : xT} {d o : Nat} {m : MV} {w : va_W} {u : Nat → Int64} (a1 : Int32) (a2 : Int32) (h : DW X d m w) : MetX X yX0_unqueue (.codeWith yX0_unqueue cX0_unqueue 5 (some .int) [(0, 10, 13, 25), (0, 10, 17, 23)]) (rmC 15 440 2700) 440 2700 [.ref d, .int a1, .int a2, .ref o] (w ++ [outC X o u]) (lwQ X d o (p_unqueue m a1 a2)) (fun _ _ _ => False) := sorry
set_option maxHeartbeats 4000000 in
theorem L_abandon {X : xT} {d o : Nat} {m : MV} {w : va_W} {u : Nat → Int64} (a1 : Int32) (h : DW X d m w) : MetX X yX0_abandon (.codeWith yX0_abandon cX0_abandon 4 (some .int) [(0, 9, 12, 25)]) (rmC 15 480 2900) 480 2900 [.ref d, .int a1, .ref o] (w ++ [outC X o u]) (lwQ X d o (p_abandon m a1)) (fun _ _ _ => False) := sorry
set_option maxHeartbeats 4000000 in
theorem L_formatSerial {X : xT} {d o : Nat} {m : MV} {w : va_W} {u : Nat → Int64} (a1 : Int32) (a2 : Int32) (h : DW X d m w) : MetX X yX0_formatSerial (.codeWith yX0_formatSerial cX0_formatSerial 5 (some .int) [(0, 10, 13, 25)]) (rmC 15 60 9000) 60 9000 [.ref d, .int a1, .int a2, .ref o] (w ++ [outC X o u]) (lwQ X d o (p_formatSerial m a1 a2)) (fun _ _ _ => False) := sorry
set_option maxHeartbeats 4000000 in
theorem L_formatBatch {X : xT} {d o : Nat} {m : MV} {w : va_W} {u : Nat → Int64} (a1 : Int32) (h : DW X d m w) : MetX X yX0_formatBatch (.codeWith yX0_formatBatch cX0_formatBatch 4 (some .int) [(0, 9, 12, 25)]) (rmC 15 260 21000) 260 21000 [.ref d, .int a1, .ref o] (w ++ [outC X o u]) (lwQ X d o (p_formatBatch m a1)) (fun _ _ _ => False) := sorry
