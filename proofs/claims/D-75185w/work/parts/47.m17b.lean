set_option maxRecDepth 100000
def p_load (v : MV)  : Int32 × MV := (if (p_failed (p_parse (up v 0 0 (0 : Int32)))) = (0 : Int32) then (lt_ ((p_parse (up v 0 0 (0 : Int32))) : MV) (fun q =>
    (((ldN (up (up (up (up (up (up q 5 0 (q.1 25 0)) 6 0 (q.1 25 1)) 7 0 (q.1 25 2)) 8 0 (q.1 25 3)) 9 0 (q.1 25 4)) 10 0 (q.1 26 0)) 6).1 10 0), (up (upR (ldN (up (up (up (up (up (up q 5 0 (q.1 25 0)) 6 0 (q.1 25 1)) 7 0 (q.1 25 2)) 8 0 (q.1 25 3)) 9 0 (q.1 25 4)) 10 0 (q.1 26 0)) 6) 1 (zsR ((ldN (up (up (up (up (up (up q 5 0 (q.1 25 0)) 6 0 (q.1 25 1)) 7 0 (q.1 25 2)) 8 0 (q.1 25 3)) 9 0 (q.1 25 4)) 10 0 (q.1 26 0)) 6).1 1) 941)) 4 0 (0 : Int32))))) else ((0 : Int32), (up (p_parse (up v 0 0 (0 : Int32))) 0 0 (1 : Int32))))
set_option maxHeartbeats 4000000 in
theorem w_load (X : xT) (h : Nat) (ad : Nat → Nat) (v : MV)   (hbf : v.1 20 0 = nI (nx (v.1 20 0))) (hbf1 : nx (v.1 20 0) ≤ 600) : MM X h ad yX4_load cX4_load 2 (some .int) 10 [] v (some (.int (p_load v).1)) (p_load v).2 := sorry
def p_put (v : MV) (a1 : Int32) : MV := (up (up v 34 (nx (v.1 35 0)) a1) 35 0 (nI ((nx (v.1 35 0)) + 1)))
theorem fr_put (v : MV) (a1 : Int32) (a j : Nat) (hf : a ≠ 34 ∧ (a ≠ 35 ∨ j ≠ 0)) : (p_put v a1).1 a j = v.1 a j := sorry
set_option maxHeartbeats 4000000 in
theorem w_put (X : xT) (h : Nat) (ad : Nat → Nat) (v : MV) (a1 : Int32)  (hf : v.1 35 0 = nI (nx (v.1 35 0))) (hf1 : nx (v.1 35 0) < 120) : MM X h ad yX4_put cX4_put 2 none 0 [.int a1] v none (p_put v a1) := sorry
def p_formattedByte (v : MV) (a1 : Int32) : Int32 × MV := (if (p_inRange a1 (0 : Int32) ((v.1 35 0) - (1 : Int32))) = (0 : Int32) then ((-1 : Int32), (up v 0 0 (0 : Int32))) else ((v.1 34 (nx a1)), (up v 0 0 (0 : Int32))))
theorem fr_formattedByte (v : MV) (a1 : Int32) (a j : Nat) (hf : (a ≠ 0 ∨ j ≠ 0)) : (p_formattedByte v a1).2.1 a j = v.1 a j := sorry
set_option maxHeartbeats 4000000 in
theorem w_formattedByte (X : xT) (h : Nat) (ad : Nat → Nat) (v : MV) (a1 : Int32)  (hf : v.1 35 0 = nI (nx (v.1 35 0))) (hf1 : nx (v.1 35 0) ≤ 120) : MM X h ad yX4_formattedByte cX4_formattedByte 2 (some .int) 1 [.int a1] v (some (.int (p_formattedByte v a1).1)) (p_formattedByte v a1).2 := sorry
