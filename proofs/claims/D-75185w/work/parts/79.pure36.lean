/-! one printing: what comes of it -/
set_option maxRecDepth 100000
theorem upd_c {f g : Nat → Int32} {k j : Nat} {x : Int32} (h : f j = g j) : upd f k x j = upd g k x j := sorry
theorem LG_16 {r : Nat → Int32} {z : Nat} {a : Int32} (hz : z < 240) (j : Nat) : LG (upd r 16 0) z a j = upd (LG r z a) 16 0 j := sorry
theorem mr2_18 {u : MV} (h : inN (u.1 1 18) 0 240) : inN ((mr2 u).1 1 18) 0 239 := sorry
theorem li_mrA {u : MV} {z j : Nat} (hj : j = 18 ∨ 605 ≤ j) (hz : z < 240) : (mrA u z).1 1 j = (mr2 u).1 1 j := sorry
theorem li_mrV {u : MV} {z j : Nat} (hj : j = 18 ∨ 605 ≤ j) (hz : z < 240) : (mrV u z).1 1 j = (mr2 u).1 1 j := sorry
theorem li_mrE {u : MV} {z j : Nat} (hj : j = 18 ∨ 605 ≤ j) (hz : z < 240) : (mrE u z).1 1 j = (mr2 u).1 1 j := sorry
theorem prints_eq {u v : MV} {sg rl bg : Nat → Int32} {z : Nat} (H : prH u v sg rl bg z) : (p_prints u z).1 = (p_SprintAt sg rl bg v z).1 ∧ RS (upd ((p_prints u z).2.1 1) 16 0) (p_Sprint sg rl bg v z).2 ∧ (p_prints u z).2.1 1 16 = (if (p_prints u z).1 = 3 then (mrD u z).1 else 0) ∧ inN ((p_prints u z).2.1 1 19) 0 24 := sorry
theorem put_li {x : MV} {s z : Nat} {L : List (Nat × Nat)} (h : liR (x.1 1) L) (hl : L.length ≤ 239) : liR ((p_putsFirst x z).1 1) ((s, z) :: L) := sorry
theorem take_li {u : MV} {x : Nat × Nat} {L : List (Nat × Nat)} (h : liR (u.1 1) (x :: L)) : liR ((mr2 u).1 1) L := sorry
theorem take_nil {u : MV} (h : liR (u.1 1) []) : mr2 u = u := sorry
theorem prints_li {u : MV} {s z : Nat} {L : List (Nat × Nat)} (h : liR (u.1 1) L) (hz : z < 240) : liR ((p_prints u z).2.1 1) (paL (mrD u z).1 (u.1 17 (z / 40)) s z L.tail) := sorry
