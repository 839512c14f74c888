set_option maxRecDepth 100000
set_option maxHeartbeats 4000000 in
theorem D_unqueue {X : xT} {d : Nat} {m : MV} {w : va_W} (a1 : Int32) (a2 : Int32) (h : DW X d m w) : MetX X yX1_unqueue (.code yX1_unqueue cX1_unqueue 4 (some .int)) (rmC 14 440 2700) 440 2700 [.ref d, .int a1, .int a2] w (rdQ X d (p_unqueue m a1 a2)) (rdT X d (ex2 exI exS) (p_unqueue m a1 a2)) := sorry
set_option maxHeartbeats 4000000 in
theorem D_abandon {X : xT} {d : Nat} {m : MV} {w : va_W} (a1 : Int32) (h : DW X d m w) : MetX X yX1_abandon (.code yX1_abandon cX1_abandon 5 (some .int)) (rmC 14 480 2900) 480 2900 [.ref d, .int a1] w (rdQ X d (p_abandon m a1)) (rdT X d exI (p_abandon m a1)) := sorry
set_option maxHeartbeats 4000000 in
theorem D_mountRoll {X : xT} {d : Nat} {m : MV} {w : va_W} (a1 : Int32) (a2 : Int32) (a3 : Int32) (a4 : Int32) (a5 : Int32) (h : DW X d m w) : MetX X yX1_mountRoll (.code yX1_mountRoll cX1_mountRoll 6 (some .int)) (rmC 14 430 2760) 430 2760 [.ref d, .int a1, .int a2, .int a3, .int a4, .int a5] w (rdQ X d (p_mountRoll m a1 a2 a3 a4 a5)) (rdT X d exA (p_mountRoll m a1 a2 a3 a4 a5)) := sorry
set_option maxHeartbeats 4000000 in
theorem D_stretch {X : xT} {d : Nat} {m : MV} {w : va_W} (a1 : Int32) (a2 : Int32) (h : DW X d m w) : MetX X yX1_stretch (.code yX1_stretch cX1_stretch 3 (some .int)) (rmC 14 430 2660) 430 2660 [.ref d, .int a1, .int a2] w (rdQ X d (p_stretch m a1 a2)) (rdT X d (ex3 exS exI exA) (p_stretch m a1 a2)) := sorry
set_option maxHeartbeats 4000000 in
theorem D_feed {X : xT} {d : Nat} {m : MV} {w : va_W} (a1 : Int32) (h : DW X d m w) : MetX X yX1_feed (.code yX1_feed cX1_feed 2 (some .int)) (rmC 14 425 2640) 425 2640 [.ref d, .int a1] w (rdQ X d (p_feed m a1)) (rdT X d (ex2 exS exA) (p_feed m a1)) := sorry
set_option maxHeartbeats 4000000 in
theorem D_feedToForm {X : xT} {d : Nat} {m : MV} {w : va_W} (h : DW X d m w) : MetX X yX1_feedToForm (.code yX1_feedToForm cX1_feedToForm 2 (some .int)) (rmC 14 425 2640) 425 2640 [.ref d] w (rdQ X d (p_feedToForm m)) (rdT X d exS (p_feedToForm m)) := sorry
set_option maxHeartbeats 4000000 in
theorem D_learn {X : xT} {d : Nat} {m : MV} {w : va_W} (h : DW X d m w) : MetX X yX1_learn (.codeWith yX1_learn cX1_learn 2 (some .int) [(16, 23, 26, 217)]) (rmC 14 1130 3360) 1130 3360 [.ref d] w (rdQ X d (p_learn m)) (rdT X d exS (p_learn m)) := sorry
set_option maxHeartbeats 4000000 in
theorem D_run {X : xT} {d : Nat} {m : MV} {w : va_W} (a1 : Int32) (h : DW X d m w) : MetX X yX1_run (.code yX1_run cX1_run 2 (some .int)) (rmC 14 870 41700) 870 41700 [.ref d, .int a1] w (rdQ X d (p_run m a1)) (rdT X d (ex2 exA exS) (p_run m a1)) := sorry
set_option maxHeartbeats 4000000 in
theorem D_wouldRun {X : xT} {d : Nat} {m : MV} {w : va_W} (a1 : Int32) (a2 : Int32) (h : DW X d m w) : MetX X yX1_wouldRun (.code yX1_wouldRun cX1_wouldRun 5 (some .int)) (rmC 14 880 41800) 880 41800 [.ref d, .int a1, .int a2] w (rdQ X d (p_wouldRun m a1 a2)) (rdT X d (ex3 exA exS exE) (p_wouldRun m a1 a2)) := sorry
