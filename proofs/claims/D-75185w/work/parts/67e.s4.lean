set_option maxRecDepth 100000

/-- two texts are the same -/
def eqT (f : Nat → Int32) (n : Nat) (k : Nat → Int32) (m : Nat) : Int32 := if n = m ∧ ∀ j, j < n → f j = k j then 1 else 0
def kb (i j : Nat) : Int32 := (kByt.getD i []).getD j 0
theorem eqT_z (f : Nat → Int32) (n : Nat) (k : Nat → Int32) (m : Nat) : eqT f n k m = 0 ∨ eqT f n k m = 1 := sorry
def hcd (f : Nat → Int32) : Nat → Int32
  | 0 => 0
  | j + 1 => 31 * hcd f j + (f j &&& 255)
set_option maxHeartbeats 4000000 in
theorem w_Leqk (X : xT) (sv L : Nat) (sf : Nat → Int32) (i : Nat) (hi : i < 10) (h2 : L ≤ 500000) : MetQ X yJ16_equals cJ16_equals 3 (some .boolean) (rmC 0 0 0) 0 0 [.ref sv, .ref (xA X (100 + i))] [(sv, .inl (xY X 3, L, .inl sf))] (eqQ (some (.int (eqT sf L (kb i) (kLen.getD i 0)))) [(sv, .inl (xY X 3, L, .inl sf))]) := sorry
set_option maxHeartbeats 4000000 in
theorem w_Leqt (X : xT) (sv L : Nat) (sf : Nat → Int32) (tv M : Nat) (tf : Nat → Int32) (h3 : M ≤ 500000) (h2 : L ≤ 500000) : MetQ X yJ16_equals cJ16_equals 3 (some .boolean) (rmC 0 0 0) 0 0 [.ref sv, .ref tv] [(sv, .inl (xY X 3, L, .inl sf)), (tv, .inl (xY X 3, M, .inl tf))] (eqQ (some (.int (eqT sf L tf M))) [(sv, .inl (xY X 3, L, .inl sf)), (tv, .inl (xY X 3, M, .inl tf))]) := sorry
set_option maxHeartbeats 4000000 in
theorem w_Seqk (X : xT) (s sv L : Nat) (h z : Int32) (sf : Nat → Int32) (i : Nat) (hi : i < 10) (h2 : L ≤ 500000) : MetQ X yJ10_equals cJ10_equals 3 (some .boolean) (rmC 1 0 0) 0 0 [.ref s, .ref (xA X i)] [(s, .inr (17, [.ref sv, .int (0 : Int32), .int h, .int z])), (sv, .inl (xY X 3, L, .inl sf))] (eqQ (some (.int (eqT sf L (kb i) (kLen.getD i 0)))) [(s, .inr (17, [.ref sv, .int (0 : Int32), .int h, .int z])), (sv, .inl (xY X 3, L, .inl sf))]) := sorry
set_option maxHeartbeats 4000000 in
theorem w_Seqt (X : xT) (s sv L : Nat) (h z : Int32) (sf : Nat → Int32) (t tv M : Nat) (th tz : Int32) (tf : Nat → Int32) (h3 : M ≤ 500000) (h2 : L ≤ 500000) : MetQ X yJ10_equals cJ10_equals 3 (some .boolean) (rmC 1 0 0) 0 0 [.ref s, .ref t] [(s, .inr (17, [.ref sv, .int (0 : Int32), .int h, .int z])), (sv, .inl (xY X 3, L, .inl sf)), (t, .inr (17, [.ref tv, .int (0 : Int32), .int th, .int tz])), (tv, .inl (xY X 3, M, .inl tf))] (eqQ (some (.int (eqT sf L tf M))) [(s, .inr (17, [.ref sv, .int (0 : Int32), .int h, .int z])), (sv, .inl (xY X 3, L, .inl sf)), (t, .inr (17, [.ref tv, .int (0 : Int32), .int th, .int tz])), (tv, .inl (xY X 3, M, .inl tf))]) := sorry
set_option maxHeartbeats 4000000 in
theorem w_sgH (X : xT) (sv L : Nat) (sf : Nat → Int32) (h2 : L ≤ 500000) : MetQ X yJ12_signedHashCode cJ12_signedHashCode 6 (some .int) (rmC 0 0 0) 0 0 [.int 0, .ref sv, .int 0, .int (nI L)] [(sv, .inl (xY X 3, L, .inl sf))] (eqQ (some (.int (hcd sf L))) [(sv, .inl (xY X 3, L, .inl sf))]) := sorry
set_option maxHeartbeats 4000000 in
theorem w_vcH (X : xT) (sv L : Nat) (sf : Nat → Int32) (h2 : L ≤ 500000) : MetQ X yJ12_vectorizedHashCode cJ12_vectorizedHashCode 5 (some .int) (rmC 1 0 0) 0 0 [.ref sv, .int 0, .int (nI L), .int 0, .int 4] [(sv, .inl (xY X 3, L, .inl sf))] (eqQ (some (.int (hcd sf L))) [(sv, .inl (xY X 3, L, .inl sf))]) := sorry
theorem lk_out {L : Nat} (h0 : ¬ L = 0) (h1 : ¬ L = 1) (h2 : L ≤ 500000) : Op.lookupswitch.offset [(0, 26), (1, 30)] 40 (nI L).toInt = 40 := sorry
theorem hcd_1 (f : Nat → Int32) : hcd f 1 = f 0 &&& 255 := sorry
set_option maxHeartbeats 4000000 in
theorem w_LH (X : xT) (sv L : Nat) (sf : Nat → Int32) (h2 : L ≤ 500000) : MetQ X yJ16_hashCode cJ16_hashCode 1 (some .int) (rmC 2 0 0) 0 0 [.ref sv] [(sv, .inl (xY X 3, L, .inl sf))] (eqQ (some (.int (hcd sf L))) [(sv, .inl (xY X 3, L, .inl sf))]) := sorry
set_option maxHeartbeats 4000000 in
theorem w_Shash (X : xT) (s sv L : Nat) (sf : Nat → Int32) (h2 : L ≤ 500000) : MetQ X yJ10_hashCode cJ10_hashCode 2 (some .int) (rmC 3 0 0) 0 0 [.ref s] [(s, .inr (17, [.ref sv, .int (0 : Int32), .int (0 : Int32), .int (0 : Int32)])), (sv, .inl (xY X 3, L, .inl sf))] (fun r w => r = some (.int (hcd sf L)) ∧ ∃ h z : Int32, w = [(s, .inr (17, [.ref sv, .int (0 : Int32), .int h, .int z])), (sv, .inl (xY X 3, L, .inl sf))]) := sorry
