/-! one printing, whole -/
set_option maxRecDepth 100000
/-- what the numbers of a State's row keep within -/
def bnd (r : Nat → Int32) : Prop := (-1000 ≤ r 1 ∧ r 1 ≤ 60000) ∧ (0 ≤ r 14 ∧ r 14 ≤ 50000) ∧ inN (r 11) 0 1000 ∧ inN (r 12) 0 1000 ∧ (0 ≤ r 2 ∧ r 2 ≤ 70000) ∧ (r 13 = 0 ∨ r 13 = 1) ∧ (r 9 = 0 ∨ r 9 = 1) ∧ inN (r 19) 0 24
theorem bgF_c {r r' : Nat → Int32} (e4 : r' 4 = r 4) (e5 : r' 5 = r 5) : ∀ i, (∀ k, k < i → r' (26 + k) = r (26 + k)) → bgF r' i = bgF r i := sorry
theorem CX_fr {m u : MV} {sg rl bg : Nat → Int32} (h : CX m sg rl bg) (e1 : ∀ j, (3 ≤ j ∧ j ≤ 7) ∨ (26 ≤ j ∧ j < 125) → u.1 1 j = m.1 1 j) (e2 : ∀ a j, (a = 18 ∨ (5 ≤ a ∧ a ≤ 9)) → u.1 a j = m.1 a j) : CX u sg rl bg := sorry
theorem fr_mrA {u : MV} {z a j : Nat} (h18 : nx (u.1 1 18) ≤ 240) (hj : a ≠ 1 ∨ (3 ≤ j ∧ j ≤ 17) ∨ j = 19 ∨ (21 ≤ j ∧ j ≤ 24) ∨ (26 ≤ j ∧ j < 365)) : (mrA u z).1 a j = u.1 a j := sorry
theorem fr_mrD {u : MV} {z a j : Nat} (h18 : nx (u.1 1 18) ≤ 240) (hj : a ≠ 1 ∨ (3 ≤ j ∧ j ≤ 7) ∨ (9 ≤ j ∧ j ≤ 17) ∨ j = 19 ∨ (21 ≤ j ∧ j ≤ 23) ∨ (26 ≤ j ∧ j < 365)) : (mrD u z).2.1 a j = u.1 a j := sorry
theorem fr_mrM {u d : MV} {z a j : Nat} {t : Int32} (hj : a ≠ 1 ∨ (j ≠ 125 + z ∧ j ≠ 21 ∧ j ≠ 22)) : (mrM u z t d).1 a j = d.1 a j := sorry
theorem fr_mrV {u : MV} {z a j : Nat} (h18 : nx (u.1 1 18) ≤ 240) (hj : a ≠ 1 ∨ (3 ≤ j ∧ j ≤ 7) ∨ (9 ≤ j ∧ j ≤ 17) ∨ j = 19 ∨ (26 ≤ j ∧ j < 125)) : (mrV u z).1 a j = u.1 a j := sorry
theorem fr_mrF {u : MV} {z a j : Nat} (h18 : nx (u.1 1 18) ≤ 240) (hj : a ≠ 1 ∨ (3 ≤ j ∧ j ≤ 7) ∨ (9 ≤ j ∧ j ≤ 17) ∨ j = 19 ∨ (26 ≤ j ∧ j < 125)) : (mrF u z).1 a j = u.1 a j := sorry
/-- where the dots leave the web -/
theorem dt_pos (n : Nat) : ∀ (i : Nat) (u : MV), -1000000 ≤ (u.1 1 1).toInt → (u.1 1 1).toInt ≤ 900000 - n → (u.1 1 1).toInt ≤ ((dtR n i u).2.1 1 1).toInt ∧ ((dtR n i u).2.1 1 1).toInt ≤ (u.1 1 1).toInt + n := sorry
theorem dt_seen (n : Nat) : ∀ (i : Nat) (u : MV), -1000000 ≤ (u.1 1 1).toInt → (u.1 1 1).toInt ≤ 900000 - n → 0 ≤ (u.1 5 0).toInt → (u.1 5 0).toInt ≤ 1000 → ∀ M : Int, (u.1 1 2).toInt ≤ M → (u.1 1 1).toInt + n + (u.1 5 0).toInt ≤ M → 0 ≤ (u.1 1 2).toInt → 0 ≤ ((dtR n i u).2.1 1 2).toInt ∧ ((dtR n i u).2.1 1 2).toInt ≤ M := sorry
theorem i32_le {a b : Int32} : a ≤ b ↔ a.toInt ≤ b.toInt := sorry
/-- bounds in whole numbers -/
theorem bnd_int {r : Nat → Int32} (h : bnd r) : -1000 ≤ (r 1).toInt ∧ (r 1).toInt ≤ 60000 ∧ 0 ≤ (r 14).toInt ∧ (r 14).toInt ≤ 50000 ∧ 0 ≤ (r 11).toInt ∧ (r 11).toInt ≤ 1000 ∧ 0 ≤ (r 12).toInt ∧ (r 12).toInt ≤ 1000 ∧ 0 ≤ (r 2).toInt ∧ (r 2).toInt ≤ 70000 := sorry
/-- everything that one printing rests on -/
def prH (u v : MV) (sg rl bg : Nat → Int32) (z : Nat) : Prop := CX u sg rl bg ∧ RS (u.1 1) v ∧ bnd (u.1 1) ∧ inN (u.1 1 18) 0 240 ∧ u.1 1 16 = 0 ∧ (0 ≤ u.1 5 0 ∧ u.1 5 0 ≤ 1000) ∧ z < 240
theorem mrA_RS {u v : MV} {sg rl bg : Nat → Int32} {z : Nat} (H : prH u v sg rl bg z) : RS ((mrA u z).1 1) (paA sg v z) := sorry
theorem mrA_1 {u : MV} {z : Nat} : (mrA u z).1 1 1 = u.1 1 14 := sorry
theorem mrD_RS {u v : MV} {sg rl bg : Nat → Int32} {z : Nat} (H : prH u v sg rl bg z) : (paD sg rl bg v z).1 = (mrD u z).1 ∧ RS ((mrD u z).2.1 1) (paD sg rl bg v z).2 := sorry
theorem mrV_RS {u v : MV} {sg rl bg : Nat → Int32} {z : Nat} (H : prH u v sg rl bg z) : RS ((mrV u z).1 1) (paV sg rl bg v z) := sorry
theorem mrV_1 {u : MV} {z : Nat} (hb : bnd (u.1 1)) (h18 : nx (u.1 1 18) ≤ 240) : (u.1 1 14).toInt ≤ ((mrV u z).1 1 1).toInt ∧ ((mrV u z).1 1 1).toInt ≤ (u.1 1 14).toInt + 1000 := sorry
theorem mrF_RS {u v : MV} {sg rl bg : Nat → Int32} {z : Nat} (H : prH u v sg rl bg z) : RS ((mrF u z).1 1) (paF sg rl bg v z) := sorry
theorem mrE_RS {u v : MV} {sg rl bg : Nat → Int32} {z : Nat} (H : prH u v sg rl bg z) : (paS sg rl bg v z).1 = (if mrG u z = -1 then 3 else 0) ∧ RS (upd ((mrE u z).1 1) 16 0) (paS sg rl bg v z).2 := sorry
