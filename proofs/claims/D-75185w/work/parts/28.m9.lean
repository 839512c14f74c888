set_option maxRecDepth 100000
set_option maxHeartbeats 4000000 in
theorem w_dots (X : xT) (h : Nat) (ad : Nat → Nat) (v : MV)   (hm : v.1 1 3 = nI (nx (v.1 1 3))) (hm1 : nx (v.1 1 3) ≤ 99) (hle : v.1 1 11 = nI (nx (v.1 1 11))) (hle1 : nx (v.1 1 11) ≤ 100000) : MM X h ad yX4_dots cX4_dots 3 (some .int) 2 [] v (some (.int (p_dots v).1)) (p_dots v).2 := sorry
set_option maxHeartbeats 4000000 in
theorem w_gapNear (X : xT) (h : Nat) (ad : Nat → Nat) (v : MV) (a1 : Int32)  (hW : webOK v) (htl : v.1 7 0 = nI (nx (v.1 7 0))) (htl1 : nx (v.1 7 0) ≤ 1000) : MM X h ad yX4_gapNear cX4_gapNear 3 (some .int) 5 [.int a1] v (some (.int (p_gapNear v a1))) v := sorry
def p_gapsSeen (v : MV)  : Int32 × MV := (if (p_isReadyNow v) = (0 : Int32) then ((0 : Int32), (up v 0 0 (1 : Int32))) else ((gsF v ((nx (v.1 1 2)) + 1)), (up v 0 0 (0 : Int32))))
theorem fr_gapsSeen (v : MV)  (a j : Nat) (hf : (a ≠ 0 ∨ j ≠ 0)) : (p_gapsSeen v ).2.1 a j = v.1 a j := sorry
set_option maxHeartbeats 4000000 in
theorem w_gapsSeen (X : xT) (h : Nat) (ad : Nat → Nat) (v : MV)   (hsn : v.1 1 2 = nI (nx (v.1 1 2))) (hsn1 : nx (v.1 1 2) ≤ 1000000) (hWr : p_isReadyNow v = 1 → webOK v) : MM X h ad yX4_gapsSeen cX4_gapsSeen 3 (some .int) 5 [] v (some (.int (p_gapsSeen v).1)) (p_gapsSeen v).2 := sorry
def p_nextGap (v : MV) (a1 : Int32) : Int32 × MV := if p_isReadyNow v = 0 then (0, up v 0 0 1) else (optI (fstB (bgP v) (nx (v.1 1 2) + 1 - nx (p_greater 0 a1)) (nx (p_greater 0 a1))), up v 0 0 0)
set_option maxHeartbeats 4000000 in
theorem w_nextGap (X : xT) (h : Nat) (ad : Nat → Nat) (v : MV) (a1 : Int32)  (hsn : v.1 1 2 = nI (nx (v.1 1 2))) (hsn1 : nx (v.1 1 2) ≤ 1000000) (hWr : p_isReadyNow v = 1 → webOK v) : MM X h ad yX4_nextGap cX4_nextGap 3 (some .int) 5 [.int a1] v (some (.int (p_nextGap v a1).1)) (p_nextGap v a1).2 := sorry
