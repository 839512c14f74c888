set_option maxRecDepth 100000
set_option maxHeartbeats 4000000 in
theorem w_parse (X : xT) (h : Nat) (ad : Nat → Nat) (v : MV)   (hbf : v.1 20 0 = nI (nx (v.1 20 0))) (hbf1 : nx (v.1 20 0) ≤ 600) : MM X h ad yX4_parse cX4_parse 1 none 9 [] v none (p_parse v) := sorry
