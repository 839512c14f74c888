set_option maxRecDepth 100000
def p_light (v : MV) (a1 : Int32) : Int32 := (if (0 : Int32) ≤ a1 then (if a1 < (p_end v) then (let x4 : Int32 := (if (p_labelLong v (labN (v.1 18) a1 (nx (v.1 1 3)))) ≤ (a1 - (v.1 18 (labN (v.1 18) a1 (nx (v.1 1 3))))) then (v.1 1 7) else (v.1 1 6))
    x4) else (0 : Int32)) else (v.1 1 6))
set_option maxHeartbeats 4000000 in
theorem w_light (X : xT) (h : Nat) (ad : Nat → Nat) (v : MV) (a1 : Int32)  (hW : webOK v) : MM X h ad yX4_light cX4_light 3 (some .int) 1 [.int a1] v (some (.int (p_light v a1))) v := sorry
def p_isLight (v : MV) (a1 : Int32) : Int32 := (if (p_light v a1) ≤ (v.1 1 10) then (0 : Int32) else (1 : Int32))
theorem z_isLight (v : MV) (a1 : Int32) : p_isLight v a1 = 0 ∨ p_isLight v a1 = 1 := sorry
set_option maxHeartbeats 4000000 in
theorem w_isLight (X : xT) (h : Nat) (ad : Nat → Nat) (v : MV) (a1 : Int32)  (hW : webOK v) : MM X h ad yX4_isLight cX4_isLight 2 (some .boolean) 2 [.int a1] v (some (.int (p_isLight v a1))) v := sorry
def p_isLikeGaps (v : MV) (a1 : Int32) : Int32 := (if (v.1 1 13) = (1 : Int32) then (if (p_isLight v a1) = (1 : Int32) then (1 : Int32) else (0 : Int32)) else (if (p_isLight v a1) = (0 : Int32) then (1 : Int32) else (0 : Int32)))
theorem z_isLikeGaps (v : MV) (a1 : Int32) : p_isLikeGaps v a1 = 0 ∨ p_isLikeGaps v a1 = 1 := sorry
set_option maxHeartbeats 4000000 in
theorem w_isLikeGaps (X : xT) (h : Nat) (ad : Nat → Nat) (v : MV) (a1 : Int32)  (hW : webOK v) : MM X h ad yX4_isLikeGaps cX4_isLikeGaps 2 (some .boolean) 3 [.int a1] v (some (.int (p_isLikeGaps v a1))) v := sorry
def p_beginsGap (v : MV) (a1 : Int32) : Int32 := (if (p_isLikeGaps v a1) = (0 : Int32) then (0 : Int32) else (if (p_isLikeGaps v (a1 - (1 : Int32))) = (0 : Int32) then (1 : Int32) else (0 : Int32)))
theorem z_beginsGap (v : MV) (a1 : Int32) : p_beginsGap v a1 = 0 ∨ p_beginsGap v a1 = 1 := sorry
set_option maxHeartbeats 4000000 in
theorem w_beginsGap (X : xT) (h : Nat) (ad : Nat → Nat) (v : MV) (a1 : Int32)  (hW : webOK v) : MM X h ad yX4_beginsGap cX4_beginsGap 2 (some .boolean) 4 [.int a1] v (some (.int (p_beginsGap v a1))) v := sorry
def p_numberOf (v : MV) (its : Nat) : Int32 := (((v.1 12 (its / 40)) + ((nI (its % 40)) * (v.1 14 (its / 40)))) - ((v.1 12 (its / 40)) + ((nI (its % 40)) * (v.1 14 (its / 40)))) / (pw10 (nx (v.1 15 (its / 40)))) * (pw10 (nx (v.1 15 (its / 40)))))
set_option maxHeartbeats 4000000 in
theorem w_numberOf (X : xT) (h : Nat) (ad : Nat → Nat) (v : MV) (its : Nat)  (hB : batOK v) (hi : its < 240) (hin : its / 40 < nx (v.1 10 0)) : MM X h ad yX4_numberOf cX4_numberOf 5 (some .int) 0 [.int (nI its)] v (some (.int (p_numberOf v its))) v := sorry
def p_checkOf (a1 : Int32) : Int32 := let s := (ckS (nx a1) a1 0 3); ((10 : Int32) - (s - s / 10 * 10)) - ((10 : Int32) - (s - s / 10 * 10)) / 10 * 10
set_option maxHeartbeats 4000000 in
theorem w_checkOf (X : xT) (a1 : Int32)   : MS X yX4_checkOf cX4_checkOf 4 (some .int) 0 [.int a1] (some (.int (p_checkOf a1))) := sorry
def p_number (v : MV) (a1 : Int32) (a2 : Int32) : Int32 × MV := (if (p_isSerial v a1 a2) = (0 : Int32) then ((0 : Int32), (up v 0 0 (1 : Int32))) else ((p_numberOf (up v 0 0 (0 : Int32)) ((40 * (nx a1)) + (nx a2))), (up v 0 0 (0 : Int32))))
theorem fr_number (v : MV) (a1 : Int32) (a2 : Int32) (a j : Nat) (hf : (a ≠ 0 ∨ j ≠ 0)) : (p_number v a1 a2).2.1 a j = v.1 a j := sorry
set_option maxHeartbeats 4000000 in
theorem w_number (X : xT) (h : Nat) (ad : Nat → Nat) (v : MV) (a1 : Int32) (a2 : Int32)  (hB : batOK v) : MM X h ad yX4_number cX4_number 3 (some .int) 3 [.int a1, .int a2] v (some (.int (p_number v a1 a2).1)) (p_number v a1 a2).2 := sorry
def p_checkDigit (v : MV) (a1 : Int32) (a2 : Int32) : Int32 × MV := (if (p_isSerial v a1 a2) = (0 : Int32) then ((0 : Int32), (up v 0 0 (1 : Int32))) else ((p_checkOf (p_numberOf (up v 0 0 (0 : Int32)) ((40 * (nx a1)) + (nx a2)))), (up v 0 0 (0 : Int32))))
theorem fr_checkDigit (v : MV) (a1 : Int32) (a2 : Int32) (a j : Nat) (hf : (a ≠ 0 ∨ j ≠ 0)) : (p_checkDigit v a1 a2).2.1 a j = v.1 a j := sorry
set_option maxHeartbeats 4000000 in
theorem w_checkDigit (X : xT) (h : Nat) (ad : Nat → Nat) (v : MV) (a1 : Int32) (a2 : Int32)  (hB : batOK v) : MM X h ad yX4_checkDigit cX4_checkDigit 3 (some .int) 3 [.int a1, .int a2] v (some (.int (p_checkDigit v a1 a2).1)) (p_checkDigit v a1 a2).2 := sorry
def p_stateOf (v : MV) (a1 : Int32) (a2 : Int32) : Int32 × MV := (if (p_isSerial v a1 a2) = (0 : Int32) then ((0 : Int32), (up v 0 0 (1 : Int32))) else ((v.1 1 (125 + ((40 * (nx a1)) + (nx a2)))), (up v 0 0 (0 : Int32))))
theorem fr_stateOf (v : MV) (a1 : Int32) (a2 : Int32) (a j : Nat) (hf : (a ≠ 0 ∨ j ≠ 0)) : (p_stateOf v a1 a2).2.1 a j = v.1 a j := sorry
set_option maxHeartbeats 4000000 in
theorem w_stateOf (X : xT) (h : Nat) (ad : Nat → Nat) (v : MV) (a1 : Int32) (a2 : Int32)  (hB : batOK v) : MM X h ad yX4_stateOf cX4_stateOf 3 (some .int) 3 [.int a1, .int a2] v (some (.int (p_stateOf v a1 a2).1)) (p_stateOf v a1 a2).2 := sorry
def p_attempts (v : MV) (a1 : Int32) (a2 : Int32) : Int32 × MV := (if (p_isSerial v a1 a2) = (0 : Int32) then ((0 : Int32), (up v 0 0 (1 : Int32))) else ((v.1 1 (365 + ((40 * (nx a1)) + (nx a2)))), (up v 0 0 (0 : Int32))))
theorem fr_attempts (v : MV) (a1 : Int32) (a2 : Int32) (a j : Nat) (hf : (a ≠ 0 ∨ j ≠ 0)) : (p_attempts v a1 a2).2.1 a j = v.1 a j := sorry
set_option maxHeartbeats 4000000 in
theorem w_attempts (X : xT) (h : Nat) (ad : Nat → Nat) (v : MV) (a1 : Int32) (a2 : Int32)  (hB : batOK v) : MM X h ad yX4_attempts cX4_attempts 3 (some .int) 3 [.int a1, .int a2] v (some (.int (p_attempts v a1 a2).1)) (p_attempts v a1 a2).2 := sorry
def p_manyIn (v : MV) (b : Nat) (a2 : Int32) : Int32 := (cntS (v.1 1) b a2 (nx (v.1 13 b)))
set_option maxHeartbeats 4000000 in
theorem w_manyIn (X : xT) (h : Nat) (ad : Nat → Nat) (v : MV) (b : Nat) (a2 : Int32)  (hb6 : b < 6) (hc : v.1 13 b = nI (nx (v.1 13 b))) (hc1 : nx (v.1 13 b) ≤ 40) : MM X h ad yX4_manyIn cX4_manyIn 5 (some .int) 1 [.int (nI b), .int a2] v (some (.int (p_manyIn v b a2))) v := sorry
def p_countOf (v : MV) (a1 : Int32) (a2 : Int32) : Int32 × MV := (if (p_isBatch v a1) = (0 : Int32) then ((0 : Int32), (up v 0 0 (1 : Int32))) else (if (p_inRange a2 (0 : Int32) (2 : Int32)) = (0 : Int32) then ((0 : Int32), (up v 0 0 (2 : Int32))) else ((p_manyIn (up v 0 0 (0 : Int32)) (nx a1) a2), (up v 0 0 (0 : Int32)))))
theorem fr_countOf (v : MV) (a1 : Int32) (a2 : Int32) (a j : Nat) (hf : (a ≠ 0 ∨ j ≠ 0)) : (p_countOf v a1 a2).2.1 a j = v.1 a j := sorry
set_option maxHeartbeats 4000000 in
theorem w_countOf (X : xT) (h : Nat) (ad : Nat → Nat) (v : MV) (a1 : Int32) (a2 : Int32)  (hB : batOK v) : MM X h ad yX4_countOf cX4_countOf 3 (some .int) 2 [.int a1, .int a2] v (some (.int (p_countOf v a1 a2).1)) (p_countOf v a1 a2).2 := sorry
def p_batchField (v : MV) (a1 : Int32) (a2 : Int32) : Int32 × MV := (if (p_isBatch v a1) = (0 : Int32) then ((0 : Int32), (up v 0 0 (1 : Int32))) else (if (p_inRange a2 (0 : Int32) (5 : Int32)) = (0 : Int32) then ((0 : Int32), (up v 0 0 (2 : Int32))) else (if a2 = (0 : Int32) then ((v.1 12 (nx a1)), (up v 0 0 (0 : Int32))) else (if a2 = (1 : Int32) then ((v.1 13 (nx a1)), (up v 0 0 (0 : Int32))) else (if a2 = (2 : Int32) then ((v.1 14 (nx a1)), (up v 0 0 (0 : Int32))) else (if a2 = (3 : Int32) then ((v.1 15 (nx a1)), (up v 0 0 (0 : Int32))) else (if a2 = (4 : Int32) then (if (v.1 16 (nx a1)) = (0 : Int32) then ((0 : Int32), (up v 0 0 (0 : Int32))) else ((1 : Int32), (up v 0 0 (0 : Int32)))) else (if (v.1 17 (nx a1)) = (0 : Int32) then ((0 : Int32), (up v 0 0 (0 : Int32))) else ((1 : Int32), (up v 0 0 (0 : Int32)))))))))))
theorem fr_batchField (v : MV) (a1 : Int32) (a2 : Int32) (a j : Nat) (hf : (a ≠ 0 ∨ j ≠ 0)) : (p_batchField v a1 a2).2.1 a j = v.1 a j := sorry
set_option maxHeartbeats 4000000 in
theorem w_batchField (X : xT) (h : Nat) (ad : Nat → Nat) (v : MV) (a1 : Int32) (a2 : Int32)  (hB : batOK v) : MM X h ad yX4_batchField cX4_batchField 3 (some .int) 2 [.int a1, .int a2] v (some (.int (p_batchField v a1 a2).1)) (p_batchField v a1 a2).2 := sorry
