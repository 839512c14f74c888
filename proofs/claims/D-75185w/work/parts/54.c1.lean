set_option maxRecDepth 100000
def p_Din (a1 : Int64) (a2 : Int64) (a3 : Int64) : Int32 := (if (lg_cmp a1 a2) < (0 : Int32) then (0 : Int32) else (if (0 : Int32) < (lg_cmp a1 a3) then (0 : Int32) else (1 : Int32)))
theorem z_Din (a1 : Int64) (a2 : Int64) (a3 : Int64) : p_Din a1 a2 a3 = 0 ∨ p_Din a1 a2 a3 = 1 := sorry
set_option maxHeartbeats 4000000 in
theorem w_Din (X : xT) (a1 : Int64) (a2 : Int64) (a3 : Int64)   : CS X yX1_in cX1_in 6 (some .boolean) 0 [.long a1, .long a2, .long a3] (some (.int (p_Din a1 a2 a3))) := sorry
theorem l64_le {a b : Int32} : a.toInt64 ≤ b.toInt64 ↔ a ≤ b := sorry
theorem cmp_lt {x y : Int64} : lg_cmp x y < 0 ↔ ¬ y ≤ x := sorry
theorem cmp_gt {x y : Int64} : 0 < lg_cmp x y ↔ ¬ x ≤ y := sorry
theorem in_eq (a b c : Int32) : p_Din a.toInt64 b.toInt64 c.toInt64 = p_inRange a b c := sorry
theorem in_eq0 (a c : Int32) : p_Din a.toInt64 0 c.toInt64 = p_inRange a 0 c := sorry
/-- a roll is in order -/
def rlOK (rl bg : Nat → Int32) : Prop := rl 0 = nI (nx (rl 0)) ∧ nx (rl 0) ≤ 99 ∧ 1 ≤ nx (rl 0) ∧ ∀ i j, i ≤ j → j < nx (rl 0) → bg i ≤ bg j
def p_SunderSensor (sg : Nat → Int32) (v : MV) : Int32 := ((v.1 2 0) + (sg 1))
set_option maxHeartbeats 4000000 in
theorem w_SunderSensor (X : xT) (ad : Nat → Nat) (dv sg : Nat → Int32) (ro : Option Nat) (v : MV)    : CB X ad dv sg ro yX3_underSensor cX3_underSensor 1 (some .int) 0 [] v (some (.int (p_SunderSensor sg v))) v := sorry
def p_Sforward (sg : Nat → Int32) (v : MV) : MV := (up (up v 3 0 (if (v.1 3 0) < (p_SunderSensor sg v) then (p_SunderSensor sg v) else (v.1 3 0))) 2 0 ((v.1 2 0) + (1 : Int32)))
theorem fr_Sforward (sg : Nat → Int32) (v : MV) (a j : Nat) (hf : (a ≠ 2 ∨ j ≠ 0) ∧ (a ≠ 3 ∨ j ≠ 0)) : (p_Sforward sg v).1 a j = v.1 a j := sorry
set_option maxHeartbeats 4000000 in
theorem w_Sforward (X : xT) (ad : Nat → Nat) (dv sg : Nat → Int32) (ro : Option Nat) (v : MV)    : CB X ad dv sg ro yX3_forward cX3_forward 1 none 1 [] v none (p_Sforward sg v) := sorry
def p_StearPlace (sg : Nat → Int32) (v : MV) : Int32 := (((v.1 14 0) - ((v.1 13 0) / (2 : Int32))) + (sg 2))
set_option maxHeartbeats 4000000 in
theorem w_StearPlace (X : xT) (ad : Nat → Nat) (dv sg : Nat → Int32) (ro : Option Nat) (v : MV)    : CB X ad dv sg ro yX3_tearPlace cX3_tearPlace 1 (some .int) 0 [] v (some (.int (p_StearPlace sg v))) v := sorry
def fwN (sg : Nat → Int32) (v : MV) : Nat → MV
  | 0 => v
  | i + 1 => p_Sforward sg (fwN sg v i)
theorem fwN_fr (sg : Nat → Int32) (v : MV) : ∀ (i a j : Nat), ((a ≠ 2 ∨ j ≠ 0) ∧ (a ≠ 3 ∨ j ≠ 0)) → (fwN sg v i).1 a j = v.1 a j := sorry
theorem i32_s {x a : Int32} (h : x < a) : (x + 1).toInt = x.toInt + 1 := sorry
/-- how many dots forward -/
def fdN (v : MV) (a : Int32) : Nat := (a.toInt - (v.1 2 0).toInt).toNat
def p_SfeedTo (sg : Nat → Int32) (v : MV) (a1 : Int32) : MV := (up (up (fwN sg v (fdN v a1)) 17 5 (((fwN sg v (fdN v a1)).1 17 5) + (((fwN sg v (fdN v a1)).1 2 0) - a1))) 2 0 a1)
set_option maxHeartbeats 4000000 in
theorem w_SfeedTo (X : xT) (ad : Nat → Nat) (dv sg : Nat → Int32) (ro : Option Nat) (v : MV) (a1 : Int32)   : CB X ad dv sg ro yX3_feedTo cX3_feedTo 2 none 2 [.int a1] v none (p_SfeedTo sg v a1) := sorry
def p_Rend (rl : Nat → Int32) (bg : Nat → Int32) : Int32 := (bg (nx (rl 0)))
set_option maxHeartbeats 4000000 in
theorem w_Rend (X : xT) (ad : Nat → Nat) (rl bg : Nat → Int32)   (hR : rlOK rl bg) : RR X ad rl bg yX8_end cX8_end 1 (some .int) 0 [] (some (.int (p_Rend rl bg))) bg := sorry
def p_RlabelAt (rl : Nat → Int32) (bg : Nat → Int32) (a1 : Int32) : Int32 := (if (p_Din (a1.toInt64) (0 : Int64) (((p_Rend rl bg) - (1 : Int32)).toInt64)) = (0 : Int32) then (-1 : Int32) else (nI (labN bg a1 (nx (rl 0)))))
set_option maxHeartbeats 4000000 in
theorem w_RlabelAt (X : xT) (ad : Nat → Nat) (rl bg : Nat → Int32) (a1 : Int32)  (hR : rlOK rl bg) : RR X ad rl bg yX8_labelAt cX8_labelAt 5 (some .int) 1 [.int a1] (some (.int (p_RlabelAt rl bg a1))) bg := sorry
theorem labA_nat {rl bg : Nat → Int32} {a : Int32} (hR : rlOK rl bg) (h : ¬ p_RlabelAt rl bg a = -1) : p_RlabelAt rl bg a = nI (nx (p_RlabelAt rl bg a)) ∧ nx (p_RlabelAt rl bg a) < nx (rl 0) := sorry
def p_RlightAt (rl : Nat → Int32) (bg : Nat → Int32) (a1 : Int32) : Int32 := (if (p_RlabelAt rl bg a1) = (-1 : Int32) then (if (0 : Int32) ≤ a1 then (0 : Int32) else (rl 3)) else (if ((bg ((nx (p_RlabelAt rl bg a1)) + 1)) - (rl 2)) ≤ a1 then (rl 4) else (rl 3)))
set_option maxHeartbeats 4000000 in
theorem w_RlightAt (X : xT) (ad : Nat → Nat) (rl bg : Nat → Int32) (a1 : Int32)  (hR : rlOK rl bg) : RR X ad rl bg yX8_lightAt cX8_lightAt 3 (some .int) 2 [.int a1] (some (.int (p_RlightAt rl bg a1))) bg := sorry
def p_SisGap (sg : Nat → Int32) (rl : Nat → Int32) (bg : Nat → Int32) (v : MV) (a1 : Int32) : Int32 := (if (p_RlightAt rl bg a1) ≤ (v.1 11 0) then (if (0 : Int32) = (v.1 10 0) then (1 : Int32) else (0 : Int32)) else (if (1 : Int32) = (v.1 10 0) then (1 : Int32) else (0 : Int32)))
theorem z_SisGap (sg : Nat → Int32) (rl : Nat → Int32) (bg : Nat → Int32) (v : MV) (a1 : Int32) : p_SisGap sg rl bg v a1 = 0 ∨ p_SisGap sg rl bg v a1 = 1 := sorry
set_option maxHeartbeats 4000000 in
theorem w_SisGap (X : xT) (ad : Nat → Nat) (dv sg rl bg : Nat → Int32) (v : MV) (a1 : Int32)  (hR : rlOK rl bg) : CR X ad dv sg rl bg yX3_isGap cX3_isGap 2 (some .boolean) 3 [.int a1] v (some (.int (p_SisGap sg rl bg v a1))) v := sorry
def p_SisBeginning (sg : Nat → Int32) (rl : Nat → Int32) (bg : Nat → Int32) (v : MV) (a1 : Int32) : Int32 := (if (p_SisGap sg rl bg v a1) = (0 : Int32) then (0 : Int32) else (if (p_SisGap sg rl bg v (a1 - (1 : Int32))) = (0 : Int32) then (1 : Int32) else (0 : Int32)))
theorem z_SisBeginning (sg : Nat → Int32) (rl : Nat → Int32) (bg : Nat → Int32) (v : MV) (a1 : Int32) : p_SisBeginning sg rl bg v a1 = 0 ∨ p_SisBeginning sg rl bg v a1 = 1 := sorry
set_option maxHeartbeats 4000000 in
theorem w_SisBeginning (X : xT) (ad : Nat → Nat) (dv sg rl bg : Nat → Int32) (v : MV) (a1 : Int32)  (hR : rlOK rl bg) : CR X ad dv sg rl bg yX3_isBeginning cX3_isBeginning 2 (some .boolean) 4 [.int a1] v (some (.int (p_SisBeginning sg rl bg v a1))) v := sorry
