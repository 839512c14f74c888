set_option maxRecDepth 100000
set_option maxHeartbeats 4000000 in
theorem w_seInit (X : xT) (q : Nat) (b s : Int32) : MetQ X yX14_init cX14_init 3 none (rmC 1 0 0) 0 0 [.ref q, .int b, .int s] [(q, .inr (12, [.int 0, .int 0]))] (eqQ none [(q, .inr (12, [.int b, .int s]))]) := sorry
set_option maxHeartbeats 4000000 in
theorem w_seCode (X : xT) (q : Nat) (b s : Int32) : MetQ X yX14_code cX14_code 1 (some .int) (rmC 0 0 0) 0 0 [.ref q] [(q, .inr (12, [.int b, .int s]))] (eqQ (some (.int (100 * b + s))) [(q, .inr (12, [.int b, .int s]))]) := sorry
set_option maxHeartbeats 4000000 in
theorem w_seSame (X : xT) (q p : Nat) (b s b2 s2 : Int32) : MetQ X yX14_isSame cX14_isSame 2 (some .boolean) (rmC 1 0 0) 0 0 [.ref q, .ref p] [(q, .inr (12, [.int b, .int s])), (p, .inr (12, [.int b2, .int s2]))] (eqQ (some (.int (if 100 * b + s = 100 * b2 + s2 then 1 else 0))) [(q, .inr (12, [.int b, .int s])), (p, .inr (12, [.int b2, .int s2]))]) := sorry
set_option maxHeartbeats 4000000 in
theorem w_seInit2 (X : xT) (q : Nat) (z : Int32) : MetQ X yX14_init_2 cX14_init_2 2 none (rmC 2 0 0) 0 0 [.ref q, .int z] [(q, .inr (12, [.int 0, .int 0]))] (eqQ none [(q, .inr (12, [.int (z / 100), .int (z - z / 100 * 100)]))]) := sorry
/-- the beginnings of equal labels, the first k of them -/
def rbF (p : Int32) (k : Nat) : Nat → Int32 := fun j => if j < k then nI j * p else 0
theorem rbF_0 (p : Int32) : rbF p 0 = fun _ => 0 := sorry
theorem rbF_s (p : Int32) (k : Nat) : rbF p (k + 1) = upd (rbF p k) k (nI k * p) := sorry
set_option maxHeartbeats 4000000 in
theorem w_roInit (X : xT) (q m : Nat) (a2 a3 a4 a5 : Int32) (hm : m ≤ 99) : MetQ X yX8_init_2 cX8_init_2 7 none (rmC 1 1 100) 1 100 [.ref q, .int (nI m), .int a2, .int a3, .int a4, .int a5] [(q, .inr (7, [.int 0, .int 0, .int 0, .int 0, .int 0, .null]))] (fun r w => r = none ∧ ∃ b : Nat, w = [(q, .inr (7, [.int (nI m), .int a2, .int a3, .int a4, .int a5, .ref b])), (b, .inl (xY X 0, 100, .inl (rbF (a2 + a3) (m + 1))))]) := sorry
def rcF (f : Nat → Int32) (p : Int32) (m : Nat) : Nat → Int32 := va_cpy f (rbF p (m + 1)) 0 0 (m + 1)
set_option maxHeartbeats 4000000 in
theorem w_roCopy (X : xT) (q o_ b_ m : Nat) (a2 a3 a4 a5 : Int32) (f : Nat → Int32) (hm : m ≤ 99) : MetQ X yX8_init cX8_init 2 none (rmC 2 1 100) 1 100 [.ref q, .ref o_] ([(q, .inr (7, [.int 0, .int 0, .int 0, .int 0, .int 0, .null]))] ++ [(o_, .inr (7, [.int (nI m), .int a2, .int a3, .int a4, .int a5, .ref b_])), (b_, .inl (xY X 0, 100, .inl f))]) (fun r w => r = none ∧ ∃ b : Nat, w = [(q, .inr (7, [.int (nI m), .int a2, .int a3, .int a4, .int a5, .ref b])), (b, .inl (xY X 0, 100, .inl (rcF f (a2 + a3) m)))] ++ [(o_, .inr (7, [.int (nI m), .int a2, .int a3, .int a4, .int a5, .ref b_])), (b_, .inl (xY X 0, 100, .inl f))]) := sorry
