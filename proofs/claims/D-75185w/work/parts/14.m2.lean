set_option maxRecDepth 100000
set_option maxHeartbeats 4000000 in
theorem w_record (X : xT) (h : Nat) (ad : Nat → Nat) (v : MV)   (hr : v.1 4 0 = nI (nx (v.1 4 0))) (hr1 : nx (v.1 4 0) ≤ 8) : MM X h ad yX4_record cX4_record 2 none 0 [] v none (p_record v) := sorry
def p_labelLong (v : MV) (l : Nat) : Int32 := ((v.1 1 4) + (v.1 1 (26 + l)))
set_option maxHeartbeats 4000000 in
theorem w_labelLong (X : xT) (h : Nat) (ad : Nat → Nat) (v : MV) (l : Nat)  (hl99 : l < 99) : MM X h ad yX4_labelLong cX4_labelLong 2 (some .int) 0 [.int (nI l)] v (some (.int (p_labelLong v l))) v := sorry
set_option maxHeartbeats 4000000 in
theorem w_laysWeb (X : xT) (h : Nat) (ad : Nat → Nat) (v : MV)   (hm : v.1 1 3 = nI (nx (v.1 1 3))) (hm1 : nx (v.1 1 3) ≤ 99) : MM X h ad yX4_laysWeb cX4_laysWeb 2 none 1 [] v none (p_laysWeb v) := sorry
set_option maxHeartbeats 4000000 in
theorem w_labelOf (X : xT) (h : Nat) (ad : Nat → Nat) (v : MV) (a1 : Int32)  (hW : webOK v) : MM X h ad yX4_labelOf cX4_labelOf 5 (some .int) 0 [.int a1] v (some (.int (nI (labN (v.1 18) a1 (nx (v.1 1 3)))))) v := sorry
def p_isSerial (v : MV) (a1 : Int32) (a2 : Int32) : Int32 := (if (p_isBatch v a1) = (0 : Int32) then (0 : Int32) else (if (p_inRange a2 (0 : Int32) ((v.1 13 (nx a1)) - (1 : Int32))) = (0 : Int32) then (0 : Int32) else (1 : Int32)))
theorem z_isSerial (v : MV) (a1 : Int32) (a2 : Int32) : p_isSerial v a1 a2 = 0 ∨ p_isSerial v a1 a2 = 1 := sorry
set_option maxHeartbeats 4000000 in
theorem w_isSerial (X : xT) (h : Nat) (ad : Nat → Nat) (v : MV) (a1 : Int32) (a2 : Int32)  (hB : batOK v) : MM X h ad yX4_isSerial cX4_isSerial 3 (some .boolean) 2 [.int a1, .int a2] v (some (.int (p_isSerial v a1 a2))) v := sorry
def p_isThere (v : MV) (its : Nat) : Int32 := (p_isSerial v (nI (its / 40)) (nI (its % 40)))
theorem z_isThere (v : MV) (its : Nat) : p_isThere v its = 0 ∨ p_isThere v its = 1 := sorry
set_option maxHeartbeats 4000000 in
theorem w_isThere (X : xT) (h : Nat) (ad : Nat → Nat) (v : MV) (its : Nat)  (hB : batOK v) (hi : its < 240) : MM X h ad yX4_isThere cX4_isThere 2 (some .boolean) 3 [.int (nI its)] v (some (.int (p_isThere v its))) v := sorry
