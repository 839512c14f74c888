set_option maxRecDepth 100000

theorem g_6 {g c : Nat} (h : 18 * 2 ^ g ≤ c + 2) (hc : c ≤ 1240) : g ≤ 6 := sorry
theorem g_s {g c : Nat} (h : 18 * 2 ^ g ≤ c + 2) : 18 * 2 ^ (g + 1) ≤ capN c (c + 1) + 2 := sorry
theorem capN_1 {c : Nat} : capN c (c + 1) = 2 * c + 2 := sorry
set_option maxHeartbeats 4000000 in
theorem w_Pword (X : xT) (p rd dr tp sz pt : Nat) (tf : Nat → Int32) (d : Nat → Value) (hz : sz ≤ 600) (hb : byF tf) (hat : pt ≤ 601) (a0 B : Nat) (ha0 : sk (bt tf sz) pt = a0) (hB : we (bt tf sz) a0 - a0 ≤ B) : MetQ X yX5_word cX5_word 4 (some (.object "java/lang/String")) (rmC 6 10 (5 * B + 80)) 10 (5 * B + 80) [.ref p] [(p, .inr (4, [.ref rd, .int (nI sz), .int (nI pt), .ref dr])), (dr, .inr (1, [.ref tp, (d 1), (d 2), (d 3), (d 4), (d 5), (d 6), (d 7)])), (tp, .inl (xY X 3, 600, .inl tf))] (fun r w => ∃ (s q : Nat) (sf : Nat → Int32), (r = some (.ref s) ∧ ∀ j, j < we (bt tf sz) a0 - a0 → sf j = tf (a0 + j)) ∧ w = [(s, .inr (17, [.ref q, .int (0 : Int32), .int (0 : Int32), .int (0 : Int32)])), (q, .inl (xY X 3, we (bt tf sz) a0 - a0, .inl sf))] ++ [(p, .inr (4, [.ref rd, .int (nI sz), .int (nI a0), .ref dr])), (dr, .inr (1, [.ref tp, (d 1), (d 2), (d 3), (d 4), (d 5), (d 6), (d 7)])), (tp, .inl (xY X 3, 600, .inl tf))]) := sorry
