set_option maxRecDepth 100000
def p_nextSerial (v : MV)  : Int32 × MV := (let x2 : Int32 := (if (p_next (up v 0 0 (0 : Int32))) = (-1 : Int32) then (-1 : Int32) else (nI ((100 * ((nx (p_next (up v 0 0 (0 : Int32)))) / 40)) + ((nx (p_next (up v 0 0 (0 : Int32)))) % 40))))
    (x2, (up v 0 0 (0 : Int32))))
theorem fr_nextSerial (v : MV)  (a j : Nat) (hf : (a ≠ 0 ∨ j ≠ 0)) : (p_nextSerial v ).2.1 a j = v.1 a j := sorry
set_option maxHeartbeats 4000000 in
theorem w_nextSerial (X : xT) (h : Nat) (ad : Nat → Nat) (v : MV)   (hB : batOK v) (hli : ∀ k, k < nx (v.1 1 18) → inN (v.1 1 (605 + k)) 0 239) : MM X h ad yX4_nextSerial cX4_nextSerial 2 (some .int) 5 [] v (some (.int (p_nextSerial v).1)) (p_nextSerial v).2 := sorry
def p_reprint (v : MV) (a1 : Int32) : Int32 × MV := (let x2 : Int32 := (if (p_inRange a1 (0 : Int32) ((v.1 1 18) - (1 : Int32))) = (0 : Int32) then (-1 : Int32) else (nI ((100 * ((nx (v.1 1 (605 + nx a1))) / 40)) + ((nx (v.1 1 (605 + nx a1))) % 40))))
    (x2, (up v 0 0 (0 : Int32))))
theorem fr_reprint (v : MV) (a1 : Int32) (a j : Nat) (hf : (a ≠ 0 ∨ j ≠ 0)) : (p_reprint v a1).2.1 a j = v.1 a j := sorry
set_option maxHeartbeats 4000000 in
theorem w_reprint (X : xT) (h : Nat) (ad : Nat → Nat) (v : MV) (a1 : Int32)  (hl : v.1 1 18 = nI (nx (v.1 1 18))) (hl1 : nx (v.1 1 18) ≤ 240) (hli : ∀ k, k < nx (v.1 1 18) → inN (v.1 1 (605 + k)) 0 239) : MM X h ad yX4_reprint cX4_reprint 2 (some .int) 1 [.int a1] v (some (.int (p_reprint v a1).1)) (p_reprint v a1).2 := sorry
def p_printedAs (v : MV) (a1 : Int32) : Int32 × MV := if p_inRange a1 0 999999 = 0 then (0, up v 0 0 1) else ((match fstB (pa_P v a1) 240 0 with | none => -1 | some i => nI (100 * (i / 40) + i % 40)), up v 0 0 0)
theorem pa_y {v : MV} {a : Int32} {i : Nat} (h1 : ¬ p_isThere v i = 0) (h2 : v.1 1 (125 + i) = 1) (h3 : p_numberOf v i = a) : pa_P v a i = true := sorry
theorem pa_n {v : MV} {a : Int32} {i : Nat} (h : p_isThere v i = 0 ∨ ¬ v.1 1 (125 + i) = 1 ∨ ¬ p_numberOf v i = a) : ¬ pa_P v a i = true := sorry
set_option maxHeartbeats 4000000 in
theorem w_printedAs (X : xT) (h : Nat) (ad : Nat → Nat) (v : MV) (a1 : Int32)  (hB : batOK v) : MM X h ad yX4_printedAs cX4_printedAs 3 (some .int) 4 [.int a1] v (some (.int (p_printedAs v a1).1)) (p_printedAs v a1).2 := sorry
def p_verify (v : MV) (a1 : Int32) (a2 : Int32) (a3 : Int32) : Int32 × MV := (if (p_isBatch v a1) = (0 : Int32) then ((0 : Int32), (up v 0 0 (1 : Int32))) else (if (vfH v (nx a1) a2 (nx (v.1 13 (nx a1)))) = (0 : Int32) then ((1 : Int32), (up v 0 0 (0 : Int32))) else (if (v.1 16 (nx a1)) = (0 : Int32) then (if (vfP v (nx a1) a2 (nx (v.1 13 (nx a1)))) = (0 : Int32) then ((3 : Int32), (up v 0 0 (0 : Int32))) else ((0 : Int32), (up v 0 0 (0 : Int32)))) else (if (p_checkOf a2) = a3 then (if (vfP v (nx a1) a2 (nx (v.1 13 (nx a1)))) = (0 : Int32) then ((3 : Int32), (up v 0 0 (0 : Int32))) else ((0 : Int32), (up v 0 0 (0 : Int32)))) else ((2 : Int32), (up v 0 0 (0 : Int32)))))))
theorem fr_verify (v : MV) (a1 : Int32) (a2 : Int32) (a3 : Int32) (a j : Nat) (hf : (a ≠ 0 ∨ j ≠ 0)) : (p_verify v a1 a2 a3).2.1 a j = v.1 a j := sorry
set_option maxHeartbeats 4000000 in
theorem w_verify (X : xT) (h : Nat) (ad : Nat → Nat) (v : MV) (a1 : Int32) (a2 : Int32) (a3 : Int32)  (hB : batOK v) : MM X h ad yX4_verify cX4_verify 8 (some .int) 2 [.int a1, .int a2, .int a3] v (some (.int (p_verify v a1 a2 a3).1)) (p_verify v a1 a2 a3).2 := sorry
def p_doubles (v : MV)  : Int32 × MV := ((dbN v 240), (up v 0 0 (0 : Int32)))
theorem fr_doubles (v : MV)  (a j : Nat) (hf : (a ≠ 0 ∨ j ≠ 0)) : (p_doubles v ).2.1 a j = v.1 a j := sorry
set_option maxHeartbeats 4000000 in
theorem w_doubles (X : xT) (h : Nat) (ad : Nat → Nat) (v : MV)   (hB : batOK v) : MM X h ad yX4_doubles cX4_doubles 5 (some .int) 4 [] v (some (.int (p_doubles v).1)) (p_doubles v).2 := sorry
def p_logField (v : MV) (a1 : Int32) (a2 : Int32) : Int32 × MV := (if (p_inRange a2 (0 : Int32) (3 : Int32)) = (0 : Int32) then ((0 : Int32), (up v 0 0 (1 : Int32))) else (let x3 : Int32 := (if (p_inRange a1 (0 : Int32) ((v.1 1 19) - (1 : Int32))) = (0 : Int32) then (-1 : Int32) else (v.1 1 ((845 + (4 * (nx a1))) + (nx a2))))
    (x3, (up v 0 0 (0 : Int32)))))
theorem fr_logField (v : MV) (a1 : Int32) (a2 : Int32) (a j : Nat) (hf : (a ≠ 0 ∨ j ≠ 0)) : (p_logField v a1 a2).2.1 a j = v.1 a j := sorry
set_option maxHeartbeats 4000000 in
theorem w_logField (X : xT) (h : Nat) (ad : Nat → Nat) (v : MV) (a1 : Int32) (a2 : Int32)  (hg : v.1 1 19 = nI (nx (v.1 1 19))) (hg1 : nx (v.1 1 19) ≤ 24) : MM X h ad yX4_logField cX4_logField 3 (some .int) 1 [.int a1, .int a2] v (some (.int (p_logField v a1 a2).1)) (p_logField v a1 a2).2 := sorry
def p_printingAt (v : MV) (a1 : Int32) : Int32 × MV := ((match fstB (fun k => decide (v.1 1 (845 + 4 * k + 2) = a1)) (nx (v.1 1 19)) 0 with | none => -1 | some k => v.1 1 (845 + 4 * k)), up v 0 0 0)
set_option maxHeartbeats 4000000 in
theorem w_printingAt (X : xT) (h : Nat) (ad : Nat → Nat) (v : MV) (a1 : Int32)  (hg : v.1 1 19 = nI (nx (v.1 1 19))) (hg1 : nx (v.1 1 19) ≤ 24) : MM X h ad yX4_printingAt cX4_printingAt 3 (some .int) 0 [.int a1] v (some (.int (p_printingAt v a1).1)) (p_printingAt v a1).2 := sorry
def p_longestRow (v : MV)  : Int32 × MV := ((lrF (v.1 1) (nx (v.1 1 19))).1, (up v 0 0 (0 : Int32)))
theorem fr_longestRow (v : MV)  (a j : Nat) (hf : (a ≠ 0 ∨ j ≠ 0)) : (p_longestRow v ).2.1 a j = v.1 a j := sorry
set_option maxHeartbeats 4000000 in
theorem w_longestRow (X : xT) (h : Nat) (ad : Nat → Nat) (v : MV)   (hg : v.1 1 19 = nI (nx (v.1 1 19))) (hg1 : nx (v.1 1 19) ≤ 24) : MM X h ad yX4_longestRow cX4_longestRow 4 (some .int) 1 [] v (some (.int (p_longestRow v).1)) (p_longestRow v).2 := sorry
def p_makeVoid (v : MV) (a1 : Int32) (a2 : Int32) : Int32 × MV := (if (p_isSerial v a1 a2) = (0 : Int32) then ((0 : Int32), (up v 0 0 (1 : Int32))) else (if (v.1 1 (125 + ((40 * (nx a1)) + (nx a2)))) = (1 : Int32) then ((p_manyIn (up (up (p_record (up v 0 0 (0 : Int32))) 1 (125 + ((40 * (nx a1)) + (nx a2))) (2 : Int32)) 1 23 ((v.1 1 23) + (1 : Int32))) (nx a1) (2 : Int32)), (up (up (p_record (up v 0 0 (0 : Int32))) 1 (125 + ((40 * (nx a1)) + (nx a2))) (2 : Int32)) 1 23 ((v.1 1 23) + (1 : Int32)))) else ((0 : Int32), (up v 0 0 (2 : Int32)))))
theorem fr_makeVoid (v : MV) (a1 : Int32) (a2 : Int32) (a j : Nat) (hf : (a ≠ 0 ∨ j ≠ 0) ∧ (a ≠ 1 ∨ j ≠ 23) ∧ (a ≠ 1 ∨ j < 125) ∧ a ≠ 2 ∧ (a ≠ 4 ∨ j ≠ 0)) : (p_makeVoid v a1 a2).2.1 a j = v.1 a j := sorry
set_option maxHeartbeats 4000000 in
theorem w_makeVoid (X : xT) (h : Nat) (ad : Nat → Nat) (v : MV) (a1 : Int32) (a2 : Int32)  (hB : batOK v) (hr : v.1 4 0 = nI (nx (v.1 4 0))) (hr1 : nx (v.1 4 0) ≤ 8) : MM X h ad yX4_makeVoid cX4_makeVoid 3 (some .int) 3 [.int a1, .int a2] v (some (.int (p_makeVoid v a1 a2).1)) (p_makeVoid v a1 a2).2 := sorry
def p_requeue (v : MV) (a1 : Int32) (a2 : Int32) : Int32 × MV := (if (p_isSerial v a1 a2) = (0 : Int32) then ((0 : Int32), (up v 0 0 (1 : Int32))) else (if (v.1 1 (125 + ((40 * (nx a1)) + (nx a2)))) = (2 : Int32) then (if (p_placeInList v (nI ((40 * (nx a1)) + (nx a2)))) = (-1 : Int32) then ((nI ((nx (v.1 1 18)) + 1)), (up (up (p_record (up v 0 0 (0 : Int32))) 1 (605 + (nx (v.1 1 18))) (nI ((40 * (nx a1)) + (nx a2)))) 1 18 (nI ((nx (v.1 1 18)) + 1)))) else ((0 : Int32), (up v 0 0 (2 : Int32)))) else ((0 : Int32), (up v 0 0 (2 : Int32)))))
theorem fr_requeue (v : MV) (a1 : Int32) (a2 : Int32) (a j : Nat) (hf : (a ≠ 0 ∨ j ≠ 0) ∧ (a ≠ 1 ∨ j ≠ 18) ∧ (a ≠ 1 ∨ j < 605) ∧ a ≠ 2 ∧ (a ≠ 4 ∨ j ≠ 0)) : (p_requeue v a1 a2).2.1 a j = v.1 a j := sorry
set_option maxHeartbeats 4000000 in
theorem w_requeue (X : xT) (h : Nat) (ad : Nat → Nat) (v : MV) (a1 : Int32) (a2 : Int32)  (hB : batOK v) (hr : v.1 4 0 = nI (nx (v.1 4 0))) (hr1 : nx (v.1 4 0) ≤ 8) (hl : v.1 1 18 = nI (nx (v.1 1 18))) (hl1 : nx (v.1 1 18) ≤ 240) : MM X h ad yX4_requeue cX4_requeue 3 (some .int) 3 [.int a1, .int a2] v (some (.int (p_requeue v a1 a2).1)) (p_requeue v a1 a2).2 := sorry
def p_unqueue (v : MV) (a1 : Int32) (a2 : Int32) : Int32 × MV := (if (p_isSerial v a1 a2) = (0 : Int32) then ((0 : Int32), (up v 0 0 (1 : Int32))) else (if (p_placeInList v (nI ((40 * (nx a1)) + (nx a2)))) = (-1 : Int32) then ((0 : Int32), (up v 0 0 (2 : Int32))) else (((p_takesFromList (p_record (up v 0 0 (0 : Int32))) (nx (p_placeInList (p_record (up v 0 0 (0 : Int32))) (nI ((40 * (nx a1)) + (nx a2)))))).1 1 18), (p_takesFromList (p_record (up v 0 0 (0 : Int32))) (nx (p_placeInList (p_record (up v 0 0 (0 : Int32))) (nI ((40 * (nx a1)) + (nx a2)))))))))
theorem fr_unqueue (v : MV) (a1 : Int32) (a2 : Int32) (a j : Nat) (hf : (a ≠ 0 ∨ j ≠ 0) ∧ (a ≠ 1 ∨ j ≠ 18) ∧ (a ≠ 1 ∨ j < 605) ∧ a ≠ 2 ∧ (a ≠ 4 ∨ j ≠ 0)) : (p_unqueue v a1 a2).2.1 a j = v.1 a j := sorry
set_option maxHeartbeats 4000000 in
theorem w_unqueue (X : xT) (h : Nat) (ad : Nat → Nat) (v : MV) (a1 : Int32) (a2 : Int32)  (hB : batOK v) (hr : v.1 4 0 = nI (nx (v.1 4 0))) (hr1 : nx (v.1 4 0) ≤ 8) (hl : v.1 1 18 = nI (nx (v.1 1 18))) (hl1 : nx (v.1 1 18) ≤ 240) : MM X h ad yX4_unqueue cX4_unqueue 3 (some .int) 3 [.int a1, .int a2] v (some (.int (p_unqueue v a1 a2).1)) (p_unqueue v a1 a2).2 := sorry
def p_ribbonLasts (v : MV)  : Int32 × MV := (if (p_isReadyNow v) = (0 : Int32) then ((0 : Int32), (up v 0 0 (1 : Int32))) else (let x3 : Int32 := (if (p_greater (0 : Int32) ((p_lesser (v.1 1 11) ((v.1 8 0) + (v.1 9 0))) - (v.1 8 0))) = (0 : Int32) then (999 : Int32) else ((v.1 1 8) / (p_greater (0 : Int32) ((p_lesser (v.1 1 11) ((v.1 8 0) + (v.1 9 0))) - (v.1 8 0)))))
    (x3, (up v 0 0 (0 : Int32)))))
theorem fr_ribbonLasts (v : MV)  (a j : Nat) (hf : (a ≠ 0 ∨ j ≠ 0)) : (p_ribbonLasts v ).2.1 a j = v.1 a j := sorry
set_option maxHeartbeats 4000000 in
theorem w_ribbonLasts (X : xT) (h : Nat) (ad : Nat → Nat) (v : MV)    : MM X h ad yX4_ribbonLasts cX4_ribbonLasts 2 (some .int) 1 [] v (some (.int (p_ribbonLasts v).1)) (p_ribbonLasts v).2 := sorry
def p_webLasts (v : MV)  : Int32 × MV := (if (p_isReadyNow v) = (0 : Int32) then ((0 : Int32), (up v 0 0 (1 : Int32))) else (((p_greater (0 : Int32) ((p_end (up v 0 0 (0 : Int32))) - (v.1 1 14))) / (p_pitch (up v 0 0 (0 : Int32)))), (up v 0 0 (0 : Int32))))
theorem fr_webLasts (v : MV)  (a j : Nat) (hf : (a ≠ 0 ∨ j ≠ 0)) : (p_webLasts v ).2.1 a j = v.1 a j := sorry
set_option maxHeartbeats 4000000 in
theorem w_webLasts (X : xT) (h : Nat) (ad : Nat → Nat) (v : MV)   (hm : v.1 1 3 = nI (nx (v.1 1 3))) (hm1 : nx (v.1 1 3) ≤ 99) (hpt : p_isReadyNow v = 1 → ¬ p_pitch v = 0) : MM X h ad yX4_webLasts cX4_webLasts 1 (some .int) 1 [] v (some (.int (p_webLasts v).1)) (p_webLasts v).2 := sorry
def p_toPrint (v : MV)  : Int32 × MV := ((tpF v (nx (v.1 10 0))), (up v 0 0 (0 : Int32)))
theorem fr_toPrint (v : MV)  (a j : Nat) (hf : (a ≠ 0 ∨ j ≠ 0)) : (p_toPrint v ).2.1 a j = v.1 a j := sorry
set_option maxHeartbeats 4000000 in
theorem w_toPrint (X : xT) (h : Nat) (ad : Nat → Nat) (v : MV)   (hB : batOK v) : MM X h ad yX4_toPrint cX4_toPrint 3 (some .int) 2 [] v (some (.int (p_toPrint v).1)) (p_toPrint v).2 := sorry
def p_yieldPercent (v : MV)  : Int32 × MV := (let x2 : Int32 := (if (v.1 1 20) = (0 : Int32) then (100 : Int32) else (((100 : Int32) * (v.1 1 21)) / (v.1 1 20)))
    (x2, (up v 0 0 (0 : Int32))))
theorem fr_yieldPercent (v : MV)  (a j : Nat) (hf : (a ≠ 0 ∨ j ≠ 0)) : (p_yieldPercent v ).2.1 a j = v.1 a j := sorry
set_option maxHeartbeats 4000000 in
theorem w_yieldPercent (X : xT) (h : Nat) (ad : Nat → Nat) (v : MV)    : MM X h ad yX4_yieldPercent cX4_yieldPercent 1 (some .int) 0 [] v (some (.int (p_yieldPercent v).1)) (p_yieldPercent v).2 := sorry
def p_total (v : MV) (a1 : Int32) : Int32 × MV := (if (p_inRange a1 (0 : Int32) (5 : Int32)) = (0 : Int32) then ((0 : Int32), (up v 0 0 (1 : Int32))) else ((v.1 1 (20 + (nx a1))), (up v 0 0 (0 : Int32))))
theorem fr_total (v : MV) (a1 : Int32) (a j : Nat) (hf : (a ≠ 0 ∨ j ≠ 0)) : (p_total v a1).2.1 a j = v.1 a j := sorry
set_option maxHeartbeats 4000000 in
theorem w_total (X : xT) (h : Nat) (ad : Nat → Nat) (v : MV) (a1 : Int32)   : MM X h ad yX4_total cX4_total 2 (some .int) 1 [.int a1] v (some (.int (p_total v a1).1)) (p_total v a1).2 := sorry
