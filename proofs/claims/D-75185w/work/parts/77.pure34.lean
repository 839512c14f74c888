/-! one printing: the component's numbers beside the model's row -/
set_option maxRecDepth 100000
def mr2 (u : MV) : MV := if nI (nx (u.1 1 18)) ≤ (0 : Int32) then u else p_takesFromList u 0
def mrA (u : MV) (z : Nat) : MV := up (up (p_feedsTo (mr2 u) (u.1 1 14)) 1 (365 + z) (u.1 1 (365 + z) + 1)) 1 20 (u.1 1 20 + 1)
def mrM (u : MV) (z : Nat) (t : Int32) (d : MV) : MV := if t = 0 then up (up (up d 1 (125 + z) 1) 1 21 (u.1 1 21 + 1)) 1 22 (u.1 1 22 + 0) else up (up (up d 1 (125 + z) 2) 1 21 (u.1 1 21 + 0)) 1 22 (u.1 1 22 + 1)
def mrP (u : MV) (z : Nat) (t : Int32) (x : MV) : MV := if t = 0 then x else if u.1 17 (z / 40) = 0 then x else p_putsFirst x z
def mrD (u : MV) (z : Nat) : Int32 × MV := p_dots (mrA u z)
def mrV (u : MV) (z : Nat) : MV := mrM u z (mrD u z).1 (mrD u z).2
def mrF (u : MV) (z : Nat) : MV := p_feedsTo (mrV u z) (u.1 1 14 + u.1 1 11)
def mrG (u : MV) (z : Nat) : Int32 := p_gapNear (mrF u z) (u.1 1 14 + u.1 1 11)
def mrE (u : MV) (z : Nat) : MV := if mrG u z = -1 then up (up (up (mrF u z) 1 17 0) 1 14 (u.1 1 14)) 1 16 (mrD u z).1 else up (up (up (mrF u z) 1 17 (mrG u z - (u.1 1 14 + u.1 1 11))) 1 14 (mrG u z + u.1 1 12)) 1 16 0
theorem prints_d (u : MV) (z : Nat) : p_prints u z = if (mrD u z).1 = 2 then (2, p_logs (mrP u z 2 (mrV u z)) z (u.1 1 14)) else ((if mrG u z = -1 then 3 else (mrD u z).1), p_logs (mrP u z (mrD u z).1 (mrE u z)) z (u.1 1 14)) := sorry
theorem take_ne {u : MV} {j : Nat} (h : nx (u.1 1 18) ≤ 240) (hj : j ≠ 18 ∧ (j < 605 ∨ 845 ≤ j)) : (p_takesFromList u 0).1 1 j = u.1 1 j := sorry
theorem put_ne {u : MV} {z j : Nat} (h : nx (u.1 1 18) ≤ 239) (hj : j ≠ 18 ∧ (j < 605 ∨ 845 ≤ j)) : (p_putsFirst u z).1 1 j = u.1 1 j := sorry
theorem mr2_ne {u : MV} {j : Nat} (h : nx (u.1 1 18) ≤ 240) (hj : j ≠ 18 ∧ (j < 605 ∨ 845 ≤ j)) : (mr2 u).1 1 j = u.1 1 j := sorry
theorem mr2_f {u : MV} {a j : Nat} (ha : a ≠ 1) : (mr2 u).1 a j = u.1 a j := sorry
theorem mrP_ne {u x : MV} {z j : Nat} {t : Int32} (h : nx (x.1 1 18) ≤ 239) (hj : j ≠ 18 ∧ (j < 605 ∨ 845 ≤ j)) : (mrP u z t x).1 1 j = x.1 1 j := sorry
/-- the row behind the log's new row -/
def LG (r : Nat → Int32) (z : Nat) (a : Int32) : Nat → Int32 := upd (upd (upd (upd (upd (lgR r 3) 845 (nI (100 * (z / 40) + z % 40))) 846 (lgR r 3 (125 + z))) 847 a) 848 (lgR r 3 (365 + z))) 19 (p_lesser 24 (lgR r 3 19 + 1))
theorem logs_r (u : MV) (z : Nat) (a : Int32) : (p_logs u z a).1 1 = LG (u.1 1) z a := sorry
theorem lg_lo {r : Nat → Int32} {j : Nat} (h : j ≤ 848) : lgR r 3 j = r j := sorry
theorem LG_ne {r : Nat → Int32} {z j : Nat} {a : Int32} (h : j < 845 ∧ j ≠ 19) : LG r z a j = r j := sorry
theorem rec_eq {r : Nat → Int32} {v : MV} {z : Nat} {a : Int32} (h : RS r v) (h0 : r 19 = nI (nx (r 19))) (h1 : nx (r 19) ≤ 24) (hz : z < 240) : RS (LG r z a) (recV v z a) ∧ LG r z a 19 = nI (nx (LG r z a 19)) ∧ nx (LG r z a 19) ≤ 24 := sorry
