set_option maxRecDepth 100000
def p_undo (v : MV)  : Int32 × MV := (if (nI (nx (v.1 4 0))) = (0 : Int32) then ((-1 : Int32), (up v 0 0 (0 : Int32))) else ((nI (nx (v.1 4 0) - 1)), (p_laysWeb (upR (up (up v 0 0 (0 : Int32)) 4 0 (nI (nx (v.1 4 0) - 1))) 1 (hget (nx (v.1 4 0) - 1) 941 (v.1 2) (v.1 1))))))
theorem fr_undo (v : MV)  (a j : Nat) (hf : (a ≠ 0 ∨ j ≠ 0) ∧ a ≠ 1 ∧ a ≠ 18 ∧ (a ≠ 4 ∨ j ≠ 0)) : (p_undo v ).2.1 a j = v.1 a j := sorry
set_option maxHeartbeats 4000000 in
theorem w_undo (X : xT) (h : Nat) (ad : Nat → Nat) (v : MV)   (hr : v.1 4 0 = nI (nx (v.1 4 0))) (hr1 : nx (v.1 4 0) ≤ 8) (hH : ∀ r, r < nx (v.1 4 0) → inN (v.1 2 (941 * r + 3)) 0 99) : MM X h ad yX4_undo cX4_undo 2 (some .int) 2 [] v (some (.int (p_undo v).1)) (p_undo v).2 := sorry
def p_mountRoll (v : MV) (a1 : Int32) (a2 : Int32) (a3 : Int32) (a4 : Int32) (a5 : Int32) : Int32 × MV := (if (p_inRange a1 (1 : Int32) (99 : Int32)) = (0 : Int32) then ((0 : Int32), (up v 0 0 (1 : Int32))) else (if (p_inRange a2 (20 : Int32) (300 : Int32)) = (0 : Int32) then ((0 : Int32), (up v 0 0 (1 : Int32))) else (if (p_inRange a3 (2 : Int32) (40 : Int32)) = (0 : Int32) then ((0 : Int32), (up v 0 0 (1 : Int32))) else (if (p_inRange a4 (0 : Int32) (255 : Int32)) = (0 : Int32) then ((0 : Int32), (up v 0 0 (1 : Int32))) else (if (p_inRange a5 (0 : Int32) (255 : Int32)) = (0 : Int32) then ((0 : Int32), (up v 0 0 (1 : Int32))) else (let u9 : MV := (up (up (up (up (up (up (up (up (up (up (p_record (up v 0 0 (0 : Int32))) 1 0 (1 : Int32)) 1 1 (0 : Int32)) 1 2 ((v.1 5 0) - (1 : Int32))) 1 3 a1) 1 4 a2) 1 5 a3) 1 6 a4) 1 7 a5) 1 9 (0 : Int32)) 1 17 (0 : Int32))
    ((p_end (p_laysWeb (upR u9 1 (zpR (u9.1 1) 99)))), (p_laysWeb (upR u9 1 (zpR (u9.1 1) 99))))))))))
theorem fr_mountRoll (v : MV) (a1 : Int32) (a2 : Int32) (a3 : Int32) (a4 : Int32) (a5 : Int32) (a j : Nat) (hf : (a ≠ 0 ∨ j ≠ 0) ∧ a ≠ 1 ∧ (a ≠ 1 ∨ j ≠ 0) ∧ (a ≠ 1 ∨ j ≠ 1) ∧ (a ≠ 1 ∨ j ≠ 17) ∧ (a ≠ 1 ∨ j ≠ 2) ∧ (a ≠ 1 ∨ j ≠ 3) ∧ (a ≠ 1 ∨ j ≠ 4) ∧ (a ≠ 1 ∨ j ≠ 5) ∧ (a ≠ 1 ∨ j ≠ 6) ∧ (a ≠ 1 ∨ j ≠ 7) ∧ (a ≠ 1 ∨ j ≠ 9) ∧ a ≠ 18 ∧ a ≠ 2 ∧ (a ≠ 4 ∨ j ≠ 0)) : (p_mountRoll v a1 a2 a3 a4 a5).2.1 a j = v.1 a j := sorry
set_option maxHeartbeats 4000000 in
theorem w_mountRoll (X : xT) (h : Nat) (ad : Nat → Nat) (v : MV) (a1 : Int32) (a2 : Int32) (a3 : Int32) (a4 : Int32) (a5 : Int32)  (hr : v.1 4 0 = nI (nx (v.1 4 0))) (hr1 : nx (v.1 4 0) ≤ 8) : MM X h ad yX4_mountRoll cX4_mountRoll 8 (some .int) 2 [.int a1, .int a2, .int a3, .int a4, .int a5] v (some (.int (p_mountRoll v a1 a2 a3 a4 a5).1)) (p_mountRoll v a1 a2 a3 a4 a5).2 := sorry
def p_stretch (v : MV) (a1 : Int32) (a2 : Int32) : Int32 × MV := (if (p_isMounted v) = (0 : Int32) then ((0 : Int32), (up v 0 0 (1 : Int32))) else (if (p_inRange a1 (0 : Int32) ((v.1 1 3) - (1 : Int32))) = (0 : Int32) then ((0 : Int32), (up v 0 0 (2 : Int32))) else (if (v.1 1 2) < (v.1 18 (nx a1)) then (if (p_inRange a2 (-20 : Int32) (20 : Int32)) = (0 : Int32) then ((0 : Int32), (up v 0 0 (3 : Int32))) else (if (1 : Int32) ≤ ((v.1 1 4) + a2) then ((p_end (p_laysWeb (up (p_record (up v 0 0 (0 : Int32))) 1 (26 + (nx a1)) a2))), (p_laysWeb (up (p_record (up v 0 0 (0 : Int32))) 1 (26 + (nx a1)) a2))) else ((0 : Int32), (up v 0 0 (3 : Int32))))) else ((0 : Int32), (up v 0 0 (1 : Int32))))))
theorem fr_stretch (v : MV) (a1 : Int32) (a2 : Int32) (a j : Nat) (hf : (a ≠ 0 ∨ j ≠ 0) ∧ (a ≠ 1 ∨ j < 26) ∧ a ≠ 18 ∧ a ≠ 2 ∧ (a ≠ 4 ∨ j ≠ 0)) : (p_stretch v a1 a2).2.1 a j = v.1 a j := sorry
set_option maxHeartbeats 4000000 in
theorem w_stretch (X : xT) (h : Nat) (ad : Nat → Nat) (v : MV) (a1 : Int32) (a2 : Int32)  (hr : v.1 4 0 = nI (nx (v.1 4 0))) (hr1 : nx (v.1 4 0) ≤ 8) (hm : v.1 1 3 = nI (nx (v.1 1 3))) (hm1 : nx (v.1 1 3) ≤ 99) : MM X h ad yX4_stretch cX4_stretch 4 (some .int) 2 [.int a1, .int a2] v (some (.int (p_stretch v a1 a2).1)) (p_stretch v a1 a2).2 := sorry
def p_mountRibbon (v : MV) (a1 : Int32) : Int32 × MV := (if (p_inRange a1 (0 : Int32) (99999 : Int32)) = (0 : Int32) then ((0 : Int32), (up v 0 0 (1 : Int32))) else ((v.1 1 8), (up (p_record (up v 0 0 (0 : Int32))) 1 8 a1)))
theorem fr_mountRibbon (v : MV) (a1 : Int32) (a j : Nat) (hf : (a ≠ 0 ∨ j ≠ 0) ∧ (a ≠ 1 ∨ j ≠ 8) ∧ a ≠ 2 ∧ (a ≠ 4 ∨ j ≠ 0)) : (p_mountRibbon v a1).2.1 a j = v.1 a j := sorry
set_option maxHeartbeats 4000000 in
theorem w_mountRibbon (X : xT) (h : Nat) (ad : Nat → Nat) (v : MV) (a1 : Int32)  (hr : v.1 4 0 = nI (nx (v.1 4 0))) (hr1 : nx (v.1 4 0) ≤ 8) : MM X h ad yX4_mountRibbon cX4_mountRibbon 3 (some .int) 1 [.int a1] v (some (.int (p_mountRibbon v a1).1)) (p_mountRibbon v a1).2 := sorry
def p_labelBegin (v : MV) (a1 : Int32) : Int32 × MV := (if (p_isMounted v) = (0 : Int32) then ((0 : Int32), (up v 0 0 (1 : Int32))) else (if (p_inRange a1 (0 : Int32) (v.1 1 3)) = (0 : Int32) then ((0 : Int32), (up v 0 0 (2 : Int32))) else ((v.1 18 (nx a1)), (up v 0 0 (0 : Int32)))))
theorem fr_labelBegin (v : MV) (a1 : Int32) (a j : Nat) (hf : (a ≠ 0 ∨ j ≠ 0)) : (p_labelBegin v a1).2.1 a j = v.1 a j := sorry
set_option maxHeartbeats 4000000 in
theorem w_labelBegin (X : xT) (h : Nat) (ad : Nat → Nat) (v : MV) (a1 : Int32)  (hm : v.1 1 3 = nI (nx (v.1 1 3))) (hm1 : nx (v.1 1 3) ≤ 99) : MM X h ad yX4_labelBegin cX4_labelBegin 2 (some .int) 1 [.int a1] v (some (.int (p_labelBegin v a1).1)) (p_labelBegin v a1).2 := sorry
def p_lightAt (v : MV) (a1 : Int32) : Int32 × MV := (if (p_isMounted v) = (0 : Int32) then ((0 : Int32), (up v 0 0 (1 : Int32))) else ((p_light (up v 0 0 (0 : Int32)) a1), (up v 0 0 (0 : Int32))))
theorem fr_lightAt (v : MV) (a1 : Int32) (a j : Nat) (hf : (a ≠ 0 ∨ j ≠ 0)) : (p_lightAt v a1).2.1 a j = v.1 a j := sorry
set_option maxHeartbeats 4000000 in
theorem w_lightAt (X : xT) (h : Nat) (ad : Nat → Nat) (v : MV) (a1 : Int32)  (hWm : p_isMounted v = 1 → webOK v) : MM X h ad yX4_lightAt cX4_lightAt 2 (some .int) 2 [.int a1] v (some (.int (p_lightAt v a1).1)) (p_lightAt v a1).2 := sorry
def p_labelUnderHead (v : MV)  : Int32 × MV := (if (p_isMounted v) = (0 : Int32) then ((0 : Int32), (up v 0 0 (1 : Int32))) else (let x3 : Int32 := (if (p_inRange (v.1 1 1) (0 : Int32) ((p_end (up v 0 0 (0 : Int32))) - (1 : Int32))) = (0 : Int32) then (-1 : Int32) else (nI (labN ((up v 0 0 (0 : Int32)).1 18) (v.1 1 1) (nx ((up v 0 0 (0 : Int32)).1 1 3)))))
    (x3, (up v 0 0 (0 : Int32)))))
theorem fr_labelUnderHead (v : MV)  (a j : Nat) (hf : (a ≠ 0 ∨ j ≠ 0)) : (p_labelUnderHead v ).2.1 a j = v.1 a j := sorry
set_option maxHeartbeats 4000000 in
theorem w_labelUnderHead (X : xT) (h : Nat) (ad : Nat → Nat) (v : MV)   (hWm : p_isMounted v = 1 → webOK v) (hm : v.1 1 3 = nI (nx (v.1 1 3))) (hm1 : nx (v.1 1 3) ≤ 99) : MM X h ad yX4_labelUnderHead cX4_labelUnderHead 1 (some .int) 1 [] v (some (.int (p_labelUnderHead v).1)) (p_labelUnderHead v).2 := sorry
def p_feed (v : MV) (a1 : Int32) : Int32 × MV := (if (p_isMounted v) = (0 : Int32) then ((0 : Int32), (up v 0 0 (1 : Int32))) else (if (p_inRange a1 (-300 : Int32) (300 : Int32)) = (0 : Int32) then ((0 : Int32), (up v 0 0 (2 : Int32))) else (if (p_inRange ((v.1 1 1) + a1) (-500 : Int32) ((p_end v) + (500 : Int32))) = (0 : Int32) then ((0 : Int32), (up v 0 0 (2 : Int32))) else (((p_feedsTo (p_record (up v 0 0 (0 : Int32))) ((v.1 1 1) + a1)).1 1 1), (p_feedsTo (p_record (up v 0 0 (0 : Int32))) ((v.1 1 1) + a1))))))
theorem fr_feed (v : MV) (a1 : Int32) (a j : Nat) (hf : (a ≠ 0 ∨ j ≠ 0) ∧ (a ≠ 1 ∨ j ≠ 1) ∧ (a ≠ 1 ∨ j ≠ 2) ∧ (a ≠ 1 ∨ j ≠ 25) ∧ a ≠ 2 ∧ (a ≠ 4 ∨ j ≠ 0)) : (p_feed v a1).2.1 a j = v.1 a j := sorry
set_option maxHeartbeats 4000000 in
theorem w_feed (X : xT) (h : Nat) (ad : Nat → Nat) (v : MV) (a1 : Int32)  (hr : v.1 4 0 = nI (nx (v.1 4 0))) (hr1 : nx (v.1 4 0) ≤ 8) (hm : v.1 1 3 = nI (nx (v.1 1 3))) (hm1 : nx (v.1 1 3) ≤ 99) : MM X h ad yX4_feed cX4_feed 2 (some .int) 2 [.int a1] v (some (.int (p_feed v a1).1)) (p_feed v a1).2 := sorry
def p_feedToForm (v : MV)  : Int32 × MV := (if (p_isReadyNow v) = (0 : Int32) then ((0 : Int32), (up v 0 0 (1 : Int32))) else (((v.1 1 14) - (v.1 1 1)), (p_feedsTo (p_record (up v 0 0 (0 : Int32))) (v.1 1 14))))
theorem fr_feedToForm (v : MV)  (a j : Nat) (hf : (a ≠ 0 ∨ j ≠ 0) ∧ (a ≠ 1 ∨ j ≠ 1) ∧ (a ≠ 1 ∨ j ≠ 2) ∧ (a ≠ 1 ∨ j ≠ 25) ∧ a ≠ 2 ∧ (a ≠ 4 ∨ j ≠ 0)) : (p_feedToForm v ).2.1 a j = v.1 a j := sorry
set_option maxHeartbeats 4000000 in
theorem w_feedToForm (X : xT) (h : Nat) (ad : Nat → Nat) (v : MV)   (hr : v.1 4 0 = nI (nx (v.1 4 0))) (hr1 : nx (v.1 4 0) ≤ 8) : MM X h ad yX4_feedToForm cX4_feedToForm 2 (some .int) 2 [] v (some (.int (p_feedToForm v).1)) (p_feedToForm v).2 := sorry
def p_learned (v : MV) (a1 : Int32) : Int32 × MV := (if (p_isReadyNow v) = (0 : Int32) then ((0 : Int32), (up v 0 0 (1 : Int32))) else (if (p_inRange a1 (0 : Int32) (4 : Int32)) = (0 : Int32) then ((0 : Int32), (up v 0 0 (2 : Int32))) else ((v.1 1 (10 + (nx a1))), (up v 0 0 (0 : Int32)))))
theorem fr_learned (v : MV) (a1 : Int32) (a j : Nat) (hf : (a ≠ 0 ∨ j ≠ 0)) : (p_learned v a1).2.1 a j = v.1 a j := sorry
set_option maxHeartbeats 4000000 in
theorem w_learned (X : xT) (h : Nat) (ad : Nat → Nat) (v : MV) (a1 : Int32)   : MM X h ad yX4_learned cX4_learned 2 (some .int) 1 [.int a1] v (some (.int (p_learned v a1).1)) (p_learned v a1).2 := sorry
def p_mostAttempts (v : MV)  : Int32 × MV := ((maF v 240).1, (up v 0 0 (0 : Int32)))
theorem fr_mostAttempts (v : MV)  (a j : Nat) (hf : (a ≠ 0 ∨ j ≠ 0)) : (p_mostAttempts v ).2.1 a j = v.1 a j := sorry
set_option maxHeartbeats 4000000 in
theorem w_mostAttempts (X : xT) (h : Nat) (ad : Nat → Nat) (v : MV)   (hB : batOK v) : MM X h ad yX4_mostAttempts cX4_mostAttempts 4 (some .int) 4 [] v (some (.int (p_mostAttempts v).1)) (p_mostAttempts v).2 := sorry
def p_next (v : MV) : Int32 := if v.1 1 18 ≤ 0 then optI (fstB (nxP v) 240 0) else v.1 1 605
set_option maxHeartbeats 4000000 in
theorem w_next (X : xT) (h : Nat) (ad : Nat → Nat) (v : MV)   (hB : batOK v) : MM X h ad yX4_next cX4_next 2 (some .int) 4 [] v (some (.int (p_next v))) v := sorry
