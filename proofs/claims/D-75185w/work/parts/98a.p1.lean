set_option maxRecDepth 100000
/-- the text's byte at k -/
def bt (tf : Nat → Int32) (sz k : Nat) : Int32 := if nI sz ≤ nI k then -1 else tf k &&& 255
def byt (x : Int32) : Prop := ∃ n : Nat, n < 256 ∧ x = nI n - 128
def byF (tf : Nat → Int32) : Prop := ∀ k, k < 600 → byt (tf k)
theorem byt_all (P : Int32 → Prop) (h : ∀ n : Fin 256, P (nI n.val - 128)) {x : Int32} (hx : byt x) : P x := sorry
theorem byt_and {x : Int32} (h : byt x) : (x < 0 → 128 ≤ x &&& 255) ∧ (¬ x < 0 → x &&& 255 = x) := sorry
theorem byt_asc {x : Int32} (h : byt x) (h0 : ¬ x < 0) : asc x := sorry
theorem isI_a {tf : Nat → Int32} {sz k : Nat} {lo hi : Int32} (hl : 0 ≤ lo) (c : nI sz ≤ nI k) : p_inRange (bt tf sz k) lo hi = 0 := sorry
theorem isI_v {tf : Nat → Int32} {sz k : Nat} {lo hi : Int32} (hl : 0 ≤ lo) (hh : hi ≤ 127) (hb : byt (tf k)) (c : ¬ nI sz ≤ nI k) : p_inRange (bt tf sz k) lo hi = if tf k < lo then 0 else if hi < tf k then 0 else 1 := sorry
theorem ri_in {x lo hi : Int32} (h : ¬ p_inRange x lo hi = 0) : lo ≤ x ∧ x ≤ hi := sorry
theorem ri_no {x lo hi : Int32} (h : p_inRange x lo hi = 0) : x < lo ∨ hi < x := sorry
theorem ws_1 {x : Int32} (h : ¬ p_inRange x 9 10 = 0) : wsB x = true := sorry
theorem ws_2 {x : Int32} (h : ¬ p_inRange x 32 32 = 0) : wsB x = true := sorry
theorem ws_n {x : Int32} (h1 : p_inRange x 9 10 = 0) (h2 : p_inRange x 32 32 = 0) : ¬ wsB x = true := sorry
theorem bt_lt {tf : Nat → Int32} {sz k : Nat} {lo hi : Int32} (hl : 0 ≤ lo) (h : ¬ p_inRange (bt tf sz k) lo hi = 0) (hz : sz ≤ 600) (hk : k ≤ 10000) : k < sz := sorry
/-- a byte in a range of plain signs -/
theorem bt_tf {tf : Nat → Int32} {sz k : Nat} {lo hi : Int32} (hl : 0 ≤ lo) (hh : hi ≤ 127) (hb : byt (tf k)) (h : ¬ p_inRange (bt tf sz k) lo hi = 0) : asc (tf k) ∧ bt tf sz k = tf k := sorry
set_option maxHeartbeats 4000000 in
theorem w_Pin (X : xT) (p rd dr tp sz pt : Nat) (tf : Nat → Int32) (d : Nat → Value) (hz : sz ≤ 600) (hb : byF tf) (k : Nat) (lo hi : Int32) (hk : k ≤ 10000) (hl : 0 ≤ lo) (hh : hi ≤ 127) : MetQ X yX5_isIn cX5_isIn 4 (some .boolean) (rmC 0 0 0) 0 0 [.ref p, .int (nI k), .int lo, .int hi] [(p, .inr (4, [.ref rd, .int (nI sz), .int (nI pt), .ref dr])), (dr, .inr (1, [.ref tp, (d 1), (d 2), (d 3), (d 4), (d 5), (d 6), (d 7)])), (tp, .inl (xY X 3, 600, .inl tf))] (eqQ (some (.int (p_inRange (bt tf sz k) lo hi))) [(p, .inr (4, [.ref rd, .int (nI sz), .int (nI pt), .ref dr])), (dr, .inr (1, [.ref tp, (d 1), (d 2), (d 3), (d 4), (d 5), (d 6), (d 7)])), (tp, .inl (xY X 3, 600, .inl tf))]) := sorry
set_option maxHeartbeats 4000000 in
theorem w_Pskip (X : xT) (p rd dr tp sz pt : Nat) (tf : Nat → Int32) (d : Nat → Value) (hz : sz ≤ 600) (hb : byF tf) (hat : pt ≤ 601) : MetQ X yX5_skip cX5_skip 1 (some .int) (rmC 1 0 0) 0 0 [.ref p] [(p, .inr (4, [.ref rd, .int (nI sz), .int (nI pt), .ref dr])), (dr, .inr (1, [.ref tp, (d 1), (d 2), (d 3), (d 4), (d 5), (d 6), (d 7)])), (tp, .inl (xY X 3, 600, .inl tf))] (eqQ (some (.int (nI (sk (bt tf sz) pt)))) [(p, .inr (4, [.ref rd, .int (nI sz), .int (nI (sk (bt tf sz) pt)), .ref dr])), (dr, .inr (1, [.ref tp, (d 1), (d 2), (d 3), (d 4), (d 5), (d 6), (d 7)])), (tp, .inl (xY X 3, 600, .inl tf))]) := sorry
