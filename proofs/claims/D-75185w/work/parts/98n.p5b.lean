set_option maxRecDepth 100000

set_option maxHeartbeats 4000000 in
theorem w_Pinit (X : xT) (q dr sz : Nat) : MetQ X yX5_init cX5_init 3 none (rmC 6 3 11) 3 11 [.ref q, .ref dr, .int (nI sz)] [(q, .inr (4, [.null, .int (0 : Int32), .int (0 : Int32), .null]))] (fun r w => ∃ rd al ea : Nat, r = none ∧ w = [(q, .inr (4, [.ref rd, .int (nI sz), .int (nI 0), .ref dr])), (rd, .inr (2, [.ref al, .int (50 : Int32), .int (40 : Int32), .int (5 : Int32), .int (0 : Int32), .int (20 : Int32)])), (al, .inr (15, [.int 0, .ref ea, .int (nI 0)])), (ea, .inl (xY X 4, 2, .inr (.inr (.inr (.inr (fun _ => none))))))]) := sorry
