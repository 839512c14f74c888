set_option maxRecDepth 100000
def p_lesser (a1 : Int32) (a2 : Int32) : Int32 := (let x2 : Int32 := (if a2 ≤ a1 then a2 else a1)
    x2)
set_option maxHeartbeats 4000000 in
theorem w_lesser (X : xT) (a1 : Int32) (a2 : Int32)   : MS X yX4_lesser cX4_lesser 2 (some .int) 0 [.int a1, .int a2] (some (.int (p_lesser a1 a2))) := sorry
def p_greater (a1 : Int32) (a2 : Int32) : Int32 := (let x2 : Int32 := (if a1 ≤ a2 then a2 else a1)
    x2)
set_option maxHeartbeats 4000000 in
theorem w_greater (X : xT) (a1 : Int32) (a2 : Int32)   : MS X yX4_greater cX4_greater 2 (some .int) 0 [.int a1, .int a2] (some (.int (p_greater a1 a2))) := sorry
def p_inRange (a1 : Int32) (a2 : Int32) (a3 : Int32) : Int32 := (if a1 < a2 then (0 : Int32) else (if a3 < a1 then (0 : Int32) else (1 : Int32)))
theorem z_inRange (a1 : Int32) (a2 : Int32) (a3 : Int32) : p_inRange a1 a2 a3 = 0 ∨ p_inRange a1 a2 a3 = 1 := sorry
set_option maxHeartbeats 4000000 in
theorem w_inRange (X : xT) (a1 : Int32) (a2 : Int32) (a3 : Int32)   : MS X yX4_inRange cX4_inRange 3 (some .boolean) 0 [.int a1, .int a2, .int a3] (some (.int (p_inRange a1 a2 a3))) := sorry
set_option maxHeartbeats 4000000 in
theorem w_place (X : xT) (b : Nat) (k : Nat)   : MS X yX4_place cX4_place 2 (some .int) 0 [.int (nI b), .int (nI k)] (some (.int (nI ((40 * b) + k)))) := sorry
set_option maxHeartbeats 4000000 in
theorem w_told (X : xT) (its : Nat)  (hi : its < 240) : MS X yX4_told cX4_told 1 (some .int) 0 [.int (nI its)] (some (.int (nI ((100 * (its / 40)) + (its % 40))))) := sorry
def p_thrown (v : MV)  : Int32 := (v.1 0 0)
set_option maxHeartbeats 4000000 in
theorem w_thrown (X : xT) (h : Nat) (ad : Nat → Nat) (v : MV)    : MM X h ad yX4_thrown cX4_thrown 1 (some .int) 0 [] v (some (.int (p_thrown v))) v := sorry
def p_feedsTo (v : MV) (a1 : Int32) : MV := (let u2 : MV := (if a1 ≤ (v.1 1 1) then (up v 1 25 ((v.1 1 25) + ((v.1 1 1) - a1))) else (up v 1 2 (p_greater (v.1 1 2) ((a1 - (1 : Int32)) + (v.1 5 0)))))
    (up u2 1 1 a1))
theorem fr_feedsTo (v : MV) (a1 : Int32) (a j : Nat) (hf : (a ≠ 1 ∨ j ≠ 1) ∧ (a ≠ 1 ∨ j ≠ 2) ∧ (a ≠ 1 ∨ j ≠ 25)) : (p_feedsTo v a1).1 a j = v.1 a j := sorry
set_option maxHeartbeats 4000000 in
theorem w_feedsTo (X : xT) (h : Nat) (ad : Nat → Nat) (v : MV) (a1 : Int32)   : MM X h ad yX4_feedsTo cX4_feedsTo 2 none 1 [.int a1] v none (p_feedsTo v a1) := sorry
def p_end (v : MV)  : Int32 := (v.1 18 (nx (v.1 1 3)))
set_option maxHeartbeats 4000000 in
theorem w_end (X : xT) (h : Nat) (ad : Nat → Nat) (v : MV)   (hm : v.1 1 3 = nI (nx (v.1 1 3))) (hm1 : nx (v.1 1 3) ≤ 99) : MM X h ad yX4_end cX4_end 1 (some .int) 0 [] v (some (.int (p_end v))) v := sorry
def p_truncate (v : MV) (a1 : Int32) : Int32 × MV := (if a1 < (0 : Int32) then ((0 : Int32), (up v 0 0 (0 : Int32))) else (if a1 ≤ (v.1 20 0) then ((1 : Int32), (up (up v 0 0 (0 : Int32)) 20 0 a1)) else ((0 : Int32), (up v 0 0 (0 : Int32)))))
theorem fr_truncate (v : MV) (a1 : Int32) (a j : Nat) (hf : (a ≠ 0 ∨ j ≠ 0) ∧ (a ≠ 20 ∨ j ≠ 0)) : (p_truncate v a1).2.1 a j = v.1 a j := sorry
set_option maxHeartbeats 4000000 in
theorem w_truncate (X : xT) (h : Nat) (ad : Nat → Nat) (v : MV) (a1 : Int32)   : MM X h ad yX4_truncate cX4_truncate 2 (some .boolean) 0 [.int a1] v (some (.int (p_truncate v a1).1)) (p_truncate v a1).2 := sorry
def p_failed (v : MV)  : Int32 := (if (v.1 24 0) = (0 : Int32) then (0 : Int32) else (1 : Int32))
theorem z_failed (v : MV)  : p_failed v  = 0 ∨ p_failed v  = 1 := sorry
set_option maxHeartbeats 4000000 in
theorem w_failed (X : xT) (h : Nat) (ad : Nat → Nat) (v : MV)    : MM X h ad yX4_failed cX4_failed 1 (some .boolean) 0 [] v (some (.int (p_failed v))) v := sorry
def p_fail (v : MV) (a1 : Int32) (a2 : Int32) : MV := (let u2 : MV := (if (v.1 24 0) = (0 : Int32) then (up (up v 24 0 a1) 23 0 a2) else v)
    u2)
theorem fr_fail (v : MV) (a1 : Int32) (a2 : Int32) (a j : Nat) (hf : (a ≠ 23 ∨ j ≠ 0) ∧ (a ≠ 24 ∨ j ≠ 0)) : (p_fail v a1 a2).1 a j = v.1 a j := sorry
set_option maxHeartbeats 4000000 in
theorem w_fail (X : xT) (h : Nat) (ad : Nat → Nat) (v : MV) (a1 : Int32) (a2 : Int32)   : MM X h ad yX4_fail cX4_fail 3 none 0 [.int a1, .int a2] v none (p_fail v a1 a2) := sorry
def p_errorOffset (v : MV)  : Int32 × MV := ((v.1 23 0), (up v 0 0 (0 : Int32)))
theorem fr_errorOffset (v : MV)  (a j : Nat) (hf : (a ≠ 0 ∨ j ≠ 0)) : (p_errorOffset v ).2.1 a j = v.1 a j := sorry
set_option maxHeartbeats 4000000 in
theorem w_errorOffset (X : xT) (h : Nat) (ad : Nat → Nat) (v : MV)    : MM X h ad yX4_errorOffset cX4_errorOffset 1 (some .int) 0 [] v (some (.int (p_errorOffset v).1)) (p_errorOffset v).2 := sorry
def p_errorKind (v : MV)  : Int32 × MV := ((v.1 24 0), (up v 0 0 (0 : Int32)))
theorem fr_errorKind (v : MV)  (a j : Nat) (hf : (a ≠ 0 ∨ j ≠ 0)) : (p_errorKind v ).2.1 a j = v.1 a j := sorry
set_option maxHeartbeats 4000000 in
theorem w_errorKind (X : xT) (h : Nat) (ad : Nat → Nat) (v : MV)    : MM X h ad yX4_errorKind cX4_errorKind 1 (some .int) 0 [] v (some (.int (p_errorKind v).1)) (p_errorKind v).2 := sorry
def p_undoDepth (v : MV)  : Int32 × MV := ((v.1 4 0), (up v 0 0 (0 : Int32)))
theorem fr_undoDepth (v : MV)  (a j : Nat) (hf : (a ≠ 0 ∨ j ≠ 0)) : (p_undoDepth v ).2.1 a j = v.1 a j := sorry
set_option maxHeartbeats 4000000 in
theorem w_undoDepth (X : xT) (h : Nat) (ad : Nat → Nat) (v : MV)    : MM X h ad yX4_undoDepth cX4_undoDepth 1 (some .int) 0 [] v (some (.int (p_undoDepth v).1)) (p_undoDepth v).2 := sorry
def p_isMounted (v : MV)  : Int32 := (if (v.1 1 0) = (1 : Int32) then (1 : Int32) else (0 : Int32))
theorem z_isMounted (v : MV)  : p_isMounted v  = 0 ∨ p_isMounted v  = 1 := sorry
set_option maxHeartbeats 4000000 in
theorem w_isMounted (X : xT) (h : Nat) (ad : Nat → Nat) (v : MV)    : MM X h ad yX4_isMounted cX4_isMounted 1 (some .boolean) 0 [] v (some (.int (p_isMounted v))) v := sorry
def p_isReadyNow (v : MV)  : Int32 := (if (v.1 1 9) = (1 : Int32) then (1 : Int32) else (0 : Int32))
theorem z_isReadyNow (v : MV)  : p_isReadyNow v  = 0 ∨ p_isReadyNow v  = 1 := sorry
set_option maxHeartbeats 4000000 in
theorem w_isReadyNow (X : xT) (h : Nat) (ad : Nat → Nat) (v : MV)    : MM X h ad yX4_isReadyNow cX4_isReadyNow 1 (some .boolean) 0 [] v (some (.int (p_isReadyNow v))) v := sorry
def p_ribbonLeft (v : MV)  : Int32 × MV := ((v.1 1 8), (up v 0 0 (0 : Int32)))
theorem fr_ribbonLeft (v : MV)  (a j : Nat) (hf : (a ≠ 0 ∨ j ≠ 0)) : (p_ribbonLeft v ).2.1 a j = v.1 a j := sorry
set_option maxHeartbeats 4000000 in
theorem w_ribbonLeft (X : xT) (h : Nat) (ad : Nat → Nat) (v : MV)    : MM X h ad yX4_ribbonLeft cX4_ribbonLeft 1 (some .int) 0 [] v (some (.int (p_ribbonLeft v).1)) (p_ribbonLeft v).2 := sorry
def p_position (v : MV)  : Int32 × MV := (if (p_isMounted v) = (0 : Int32) then ((0 : Int32), (up v 0 0 (1 : Int32))) else ((v.1 1 1), (up v 0 0 (0 : Int32))))
theorem fr_position (v : MV)  (a j : Nat) (hf : (a ≠ 0 ∨ j ≠ 0)) : (p_position v ).2.1 a j = v.1 a j := sorry
set_option maxHeartbeats 4000000 in
theorem w_position (X : xT) (h : Nat) (ad : Nat → Nat) (v : MV)    : MM X h ad yX4_position cX4_position 1 (some .int) 1 [] v (some (.int (p_position v).1)) (p_position v).2 := sorry
def p_webEnd (v : MV)  : Int32 × MV := (if (p_isMounted v) = (0 : Int32) then ((0 : Int32), (up v 0 0 (1 : Int32))) else ((p_end (up v 0 0 (0 : Int32))), (up v 0 0 (0 : Int32))))
theorem fr_webEnd (v : MV)  (a j : Nat) (hf : (a ≠ 0 ∨ j ≠ 0)) : (p_webEnd v ).2.1 a j = v.1 a j := sorry
set_option maxHeartbeats 4000000 in
theorem w_webEnd (X : xT) (h : Nat) (ad : Nat → Nat) (v : MV)   (hm : v.1 1 3 = nI (nx (v.1 1 3))) (hm1 : nx (v.1 1 3) ≤ 99) : MM X h ad yX4_webEnd cX4_webEnd 1 (some .int) 1 [] v (some (.int (p_webEnd v).1)) (p_webEnd v).2 := sorry
def p_fails (v : MV) (a1 : Int32) : Int32 × MV := (a1, (up (up v 1 15 a1) 1 9 (0 : Int32)))
theorem fr_fails (v : MV) (a1 : Int32) (a j : Nat) (hf : (a ≠ 1 ∨ j ≠ 15) ∧ (a ≠ 1 ∨ j ≠ 9)) : (p_fails v a1).2.1 a j = v.1 a j := sorry
set_option maxHeartbeats 4000000 in
theorem w_fails (X : xT) (h : Nat) (ad : Nat → Nat) (v : MV) (a1 : Int32)   : MM X h ad yX4_fails cX4_fails 2 (some .int) 0 [.int a1] v (some (.int (p_fails v a1).1)) (p_fails v a1).2 := sorry
def p_pitch (v : MV)  : Int32 := ((v.1 1 11) + (v.1 1 12))
set_option maxHeartbeats 4000000 in
theorem w_pitch (X : xT) (h : Nat) (ad : Nat → Nat) (v : MV)    : MM X h ad yX4_pitch cX4_pitch 1 (some .int) 0 [] v (some (.int (p_pitch v))) v := sorry
def p_isReady (v : MV)  : Int32 × MV := ((p_isReadyNow (up v 0 0 (0 : Int32))), (up v 0 0 (0 : Int32)))
theorem fr_isReady (v : MV)  (a j : Nat) (hf : (a ≠ 0 ∨ j ≠ 0)) : (p_isReady v ).2.1 a j = v.1 a j := sorry
set_option maxHeartbeats 4000000 in
theorem w_isReady (X : xT) (h : Nat) (ad : Nat → Nat) (v : MV)    : MM X h ad yX4_isReady cX4_isReady 1 (some .boolean) 1 [] v (some (.int (p_isReady v).1)) (p_isReady v).2 := sorry
def p_seenTo (v : MV)  : Int32 × MV := (if (p_isMounted v) = (0 : Int32) then ((0 : Int32), (up v 0 0 (1 : Int32))) else ((v.1 1 2), (up v 0 0 (0 : Int32))))
theorem fr_seenTo (v : MV)  (a j : Nat) (hf : (a ≠ 0 ∨ j ≠ 0)) : (p_seenTo v ).2.1 a j = v.1 a j := sorry
set_option maxHeartbeats 4000000 in
theorem w_seenTo (X : xT) (h : Nat) (ad : Nat → Nat) (v : MV)    : MM X h ad yX4_seenTo cX4_seenTo 1 (some .int) 1 [] v (some (.int (p_seenTo v).1)) (p_seenTo v).2 := sorry
def p_backfeed (v : MV)  : Int32 × MV := (if (p_isReadyNow v) = (0 : Int32) then ((0 : Int32), (up v 0 0 (1 : Int32))) else ((p_greater (0 : Int32) ((v.1 1 1) - (v.1 1 14))), (up v 0 0 (0 : Int32))))
theorem fr_backfeed (v : MV)  (a j : Nat) (hf : (a ≠ 0 ∨ j ≠ 0)) : (p_backfeed v ).2.1 a j = v.1 a j := sorry
set_option maxHeartbeats 4000000 in
theorem w_backfeed (X : xT) (h : Nat) (ad : Nat → Nat) (v : MV)    : MM X h ad yX4_backfeed cX4_backfeed 1 (some .int) 1 [] v (some (.int (p_backfeed v).1)) (p_backfeed v).2 := sorry
def p_lastShift (v : MV)  : Int32 × MV := ((v.1 1 17), (up v 0 0 (0 : Int32)))
theorem fr_lastShift (v : MV)  (a j : Nat) (hf : (a ≠ 0 ∨ j ≠ 0)) : (p_lastShift v ).2.1 a j = v.1 a j := sorry
set_option maxHeartbeats 4000000 in
theorem w_lastShift (X : xT) (h : Nat) (ad : Nat → Nat) (v : MV)    : MM X h ad yX4_lastShift cX4_lastShift 1 (some .int) 0 [] v (some (.int (p_lastShift v).1)) (p_lastShift v).2 := sorry
def p_tear (v : MV)  : Int32 := (((v.1 1 14) - ((v.1 1 12) / (2 : Int32))) + (v.1 6 0))
set_option maxHeartbeats 4000000 in
theorem w_tear (X : xT) (h : Nat) (ad : Nat → Nat) (v : MV)    : MM X h ad yX4_tear cX4_tear 1 (some .int) 0 [] v (some (.int (p_tear v))) v := sorry
def p_tearPlace (v : MV)  : Int32 × MV := (if (p_isReadyNow v) = (0 : Int32) then ((0 : Int32), (up v 0 0 (1 : Int32))) else ((p_tear (up v 0 0 (0 : Int32))), (up v 0 0 (0 : Int32))))
theorem fr_tearPlace (v : MV)  (a j : Nat) (hf : (a ≠ 0 ∨ j ≠ 0)) : (p_tearPlace v ).2.1 a j = v.1 a j := sorry
set_option maxHeartbeats 4000000 in
theorem w_tearPlace (X : xT) (h : Nat) (ad : Nat → Nat) (v : MV)    : MM X h ad yX4_tearPlace cX4_tearPlace 1 (some .int) 1 [] v (some (.int (p_tearPlace v).1)) (p_tearPlace v).2 := sorry
def p_isBatch (v : MV) (a1 : Int32) : Int32 := (p_inRange a1 (0 : Int32) ((v.1 10 0) - (1 : Int32)))
theorem z_isBatch (v : MV) (a1 : Int32) : p_isBatch v a1 = 0 ∨ p_isBatch v a1 = 1 := sorry
set_option maxHeartbeats 4000000 in
theorem w_isBatch (X : xT) (h : Nat) (ad : Nat → Nat) (v : MV) (a1 : Int32)   : MM X h ad yX4_isBatch cX4_isBatch 2 (some .boolean) 1 [.int a1] v (some (.int (p_isBatch v a1))) v := sorry
def p_reprints (v : MV)  : Int32 × MV := ((v.1 1 18), (up v 0 0 (0 : Int32)))
theorem fr_reprints (v : MV)  (a j : Nat) (hf : (a ≠ 0 ∨ j ≠ 0)) : (p_reprints v ).2.1 a j = v.1 a j := sorry
set_option maxHeartbeats 4000000 in
theorem w_reprints (X : xT) (h : Nat) (ad : Nat → Nat) (v : MV)    : MM X h ad yX4_reprints cX4_reprints 1 (some .int) 0 [] v (some (.int (p_reprints v).1)) (p_reprints v).2 := sorry
def p_logCount (v : MV)  : Int32 × MV := ((v.1 1 19), (up v 0 0 (0 : Int32)))
theorem fr_logCount (v : MV)  (a j : Nat) (hf : (a ≠ 0 ∨ j ≠ 0)) : (p_logCount v ).2.1 a j = v.1 a j := sorry
set_option maxHeartbeats 4000000 in
theorem w_logCount (X : xT) (h : Nat) (ad : Nat → Nat) (v : MV)    : MM X h ad yX4_logCount cX4_logCount 1 (some .int) 0 [] v (some (.int (p_logCount v).1)) (p_logCount v).2 := sorry
def p_trouble (v : MV)  : Int32 × MV := ((v.1 1 15), (up v 0 0 (0 : Int32)))
theorem fr_trouble (v : MV)  (a j : Nat) (hf : (a ≠ 0 ∨ j ≠ 0)) : (p_trouble v ).2.1 a j = v.1 a j := sorry
set_option maxHeartbeats 4000000 in
theorem w_trouble (X : xT) (h : Nat) (ad : Nat → Nat) (v : MV)    : MM X h ad yX4_trouble cX4_trouble 1 (some .int) 0 [] v (some (.int (p_trouble v).1)) (p_trouble v).2 := sorry
def p_causeOfTrouble (v : MV)  : Int32 × MV := ((v.1 1 16), (up v 0 0 (0 : Int32)))
theorem fr_causeOfTrouble (v : MV)  (a j : Nat) (hf : (a ≠ 0 ∨ j ≠ 0)) : (p_causeOfTrouble v ).2.1 a j = v.1 a j := sorry
set_option maxHeartbeats 4000000 in
theorem w_causeOfTrouble (X : xT) (h : Nat) (ad : Nat → Nat) (v : MV)    : MM X h ad yX4_causeOfTrouble cX4_causeOfTrouble 1 (some .int) 0 [] v (some (.int (p_causeOfTrouble v).1)) (p_causeOfTrouble v).2 := sorry
