set_option maxRecDepth 100000

theorem word_1 {u : MV} {i : Nat} (h : ¬ (p_accept u i).1 = 0) : p_word u i = (p_accept u i).2 := sorry
theorem word_0 {u : MV} {i : Nat} (h : (p_accept u i).1 = 0) : p_word u i = p_fail (p_accept u i).2 1 ((p_accept u i).2.1 22 0) := sorry
theorem sk_id {t : Nat → Int32} {a b : Nat} (h : a = sk t b) (hb : b ≤ 601) : sk t a = a := sorry
theorem aft_0 {u : MV} {t : Nat → Int32} {pt a1 i q : Nat} {lo hi : Int32} {dc tc : Nat × va_E} (hu : PR u t pt) (hu1 : PR (p_accept u i).2 t a1) (h : (p_accept u i).1 = 0) : PTh dc tc (p_digits (p_word u i) lo hi).2 "LabelDriver$Malformed" q [mfC q 1 (nI (sk t a1)), dc, tc] := sorry
theorem PR.sk2 {u : MV} {t : Nat → Int32} {pt : Nat} (h : PR u t pt) : PR (up u 22 0 (nI (sk t pt))) t (sk t pt) := sorry
theorem dig_sk {u : MV} {t : Nat → Int32} {pt : Nat} (h : PR u t pt) (lo hi : Int32) : p_digits (up u 22 0 (nI (sk t pt))) lo hi = p_digits u lo hi := sorry
set_option maxHeartbeats 4000000 in
theorem w_Pafter (X : xT) (p rd dr tp sz pt : Nat) (tf : Nat → Int32) (d : Nat → Value) (hz : sz ≤ 600) (hb : byF tf) (u : MV) (hu : PR u (bt tf sz) pt) (i B : Nat) (lo hi : Int32) (hi9 : i < 10) (hB : weA u - skA u ≤ B) : MetX X yX5_after (.code yX5_after cX5_after 4 (some .int)) (rmC 10 13 (5 * B + 104)) 13 (5 * B + 104) [.ref p, .ref (xA X i), .int lo, .int hi] [(p, .inr (4, [.ref rd, .int (nI sz), .int (nI pt), .ref dr])), (dr, .inr (1, [.ref tp, (d 1), (d 2), (d 3), (d 4), (d 5), (d 6), (d 7)])), (tp, .inl (xY X 3, 600, .inl tf))] (fun r w => ∃ a : Nat, (r = some (.int (p_digits (p_word u i) lo hi).1) ∧ PR (p_digits (p_word u i) lo hi).2 (bt tf sz) a) ∧ w = [(p, .inr (4, [.ref rd, .int (nI sz), .int (nI a), .ref dr])), (dr, .inr (1, [.ref tp, (d 1), (d 2), (d 3), (d 4), (d 5), (d 6), (d 7)])), (tp, .inl (xY X 3, 600, .inl tf))]) (PTh (dr, .inr (1, [.ref tp, (d 1), (d 2), (d 3), (d 4), (d 5), (d 6), (d 7)])) (tp, .inl (xY X 3, 600, .inl tf)) (p_digits (p_word u i) lo hi).2) := sorry
