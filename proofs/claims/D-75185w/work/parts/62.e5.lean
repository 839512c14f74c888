set_option maxRecDepth 100000
set_option maxHeartbeats 4000000 in
theorem w_acInit (X : xT) (a : Nat) : MetQ X yJ0_init cJ0_init 1 none (rmC 1 0 0) 0 0 [.ref a] [] (eqQ none []) := sorry
set_option maxHeartbeats 4000000 in
theorem w_dqInit5 (X : xT) (a : Nat) : MetQ X yJ1_init_2 cJ1_init_2 2 none (rmC 2 1 5) 1 5 [.ref a, .int 4] [(a, .inr (14, [.null, .int (0 : Int32), .int (0 : Int32)]))] (fun r w => r = none ∧ ∃ e : Nat, w = dqW X a e 5 (fun _ => none) 0 0) := sorry
set_option maxHeartbeats 4000000 in
theorem w_dqInit17 (X : xT) (a : Nat) : MetQ X yJ1_init cJ1_init 1 none (rmC 2 1 17) 1 17 [.ref a] [(a, .inr (14, [.null, .int (0 : Int32), .int (0 : Int32)]))] (fun r w => r = none ∧ ∃ e : Nat, w = dqW X a e 17 (fun _ => none) 0 0) := sorry
theorem dq_0 {cap : Nat} (h : 1 ≤ cap) (h2 : cap ≤ 2000) (f : Nat → Option Nat) : dqI cap f 0 0 [] := sorry
theorem dq_rl {cap hd tl x : Nat} {f : Nat → Option Nat} {L : List Nat} (h : dqI cap f hd tl (L ++ [x])) : f ((tl + cap - 1) % cap) = some x ∧ dqI cap (va_up f ((tl + cap - 1) % cap) none) hd ((tl + cap - 1) % cap) L := sorry
set_option maxHeartbeats 4000000 in
theorem w_dqPollL (X : xT) (a e cap hd tl x : Nat) (f : Nat → Option Nat) (L : List Nat) (hD : dqI cap f hd tl (L ++ [x])) : MetQ X yJ1_pollLast cJ1_pollLast 4 (some (.object "java/lang/Object")) (rmC 1 0 0) 0 0 [.ref a] (dqW X a e cap f hd tl) (eqQ (some (.ref x)) (dqW X a e cap (va_up f ((tl + cap - 1) % cap) none) hd ((tl + cap - 1) % cap))) := sorry
set_option maxHeartbeats 4000000 in
theorem w_dqRemL (X : xT) (a e cap hd tl x : Nat) (f : Nat → Option Nat) (L : List Nat) (hD : dqI cap f hd tl (L ++ [x])) : MetQ X yJ1_removeLast cJ1_removeLast 2 (some (.object "java/lang/Object")) (rmC 2 0 0) 0 0 [.ref a] (dqW X a e cap f hd tl) (eqQ (some (.ref x)) (dqW X a e cap (va_up f ((tl + cap - 1) % cap) none) hd ((tl + cap - 1) % cap))) := sorry
set_option maxHeartbeats 4000000 in
theorem w_dqCirc (X : xT) (e cap hd tl : Nat) (f : Nat → Option Nat) (h1 : hd < cap) (h2 : tl < cap) (h3 : cap ≤ 2000) : MetQ X yJ1_circularClear cJ1_circularClear 4 none (rmC 0 0 0) 0 0 [.ref e, .int (nI hd), .int (nI tl)] [(e, .inl (xY X 4, cap, .inr (.inr (.inr (.inr f)))))] (fun r w => r = none ∧ ∃ h : Nat → Option Nat, w = [(e, .inl (xY X 4, cap, .inr (.inr (.inr (.inr h)))))]) := sorry
set_option maxHeartbeats 4000000 in
theorem w_dqClear (X : xT) (a e cap hd tl : Nat) (f : Nat → Option Nat) (L : List Nat) (hD : dqI cap f hd tl L) : MetQ X yJ1_clear cJ1_clear 1 none (rmC 1 0 0) 0 0 [.ref a] (dqW X a e cap f hd tl) (fun r w => r = none ∧ ∃ h : Nat → Option Nat, w = dqW X a e cap h 0 0) := sorry
def alW (X : xT) (a e cap : Nat) (f : Nat → Option Nat) (c : Int32) (n : Nat) : va_W := [(a, .inr (15, [.int c, .ref e, .int (nI n)])), (e, .inl (xY X 4, cap, .inr (.inr (.inr (.inr f)))))]
def alI (cap : Nat) (f : Nat → Option Nat) (L : List Nat) : Prop := 1 ≤ cap ∧ cap ≤ 100 ∧ L.length ≤ cap ∧ ∀ i, i < L.length → f i = L[i]?
set_option maxHeartbeats 4000000 in
theorem w_alSup (X : xT) (a : Nat) (b d9 : Value) (e9 : Int32) : MetQ X yJ2_init cJ2_init 1 none (rmC 2 0 0) 0 0 [.ref a] [(a, .inr (15, [.int e9, b, d9]))] (eqQ none [(a, .inr (15, [.int 0, b, d9]))]) := sorry
set_option maxHeartbeats 4000000 in
theorem w_alInit (X : xT) (a : Nat) : MetQ X yJ3_init cJ3_init 2 none (rmC 3 1 2) 1 2 [.ref a, .int 2] [(a, .inr (15, [.int (0 : Int32), .null, .int (0 : Int32)]))] (fun r w => r = none ∧ ∃ e : Nat, w = alW X a e 2 (fun _ => none) 0 0) := sorry
set_option maxHeartbeats 4000000 in
theorem w_alSize (X : xT) (a e cap n : Nat) (c : Int32) (f : Nat → Option Nat) : MetQ X yJ3_size cJ3_size 1 (some .int) (rmC 0 0 0) 0 0 [.ref a] (alW X a e cap f c n) (eqQ (some (.int (nI n))) (alW X a e cap f c n)) := sorry
set_option maxHeartbeats 4000000 in
theorem w_alAt (X : xT) (a e cap n : Nat) (c : Int32) (f : Nat → Option Nat) (j x : Nat) (hj : j < cap) (hc : cap ≤ 100) (hx : f j = some x) : MetQ X yJ3_elementData cJ3_elementData 2 (some (.object "java/lang/Object")) (rmC 0 0 0) 0 0 [.ref a, .int (nI j)] (alW X a e cap f c n) (eqQ (some (.ref x)) (alW X a e cap f c n)) := sorry
set_option maxHeartbeats 4000000 in
theorem w_pcIx (X : xT) (j n : Nat) (hj : j < n) (hn : n ≤ 2000) : MetQ X yJ15_checkIndex cJ15_checkIndex 3 (some .int) (rmC 0 0 0) 0 0 [.int (nI j), .int (nI n), .null] [] (eqQ (some (.int (nI j))) []) := sorry
set_option maxHeartbeats 4000000 in
theorem w_obIx (X : xT) (j n : Nat) (hj : j < n) (hn : n ≤ 2000) : MetQ X yJ19_checkIndex cJ19_checkIndex 2 (some .int) (rmC 1 0 0) 0 0 [.int (nI j), .int (nI n)] [] (eqQ (some (.int (nI j))) []) := sorry
set_option maxHeartbeats 4000000 in
theorem w_alGet (X : xT) (a e cap n : Nat) (c : Int32) (f : Nat → Option Nat) (j x : Nat) (hj : j < n) (hn : n ≤ cap) (hc : cap ≤ 100) (hx : f j = some x) : MetQ X yJ3_get cJ3_get 2 (some (.object "java/lang/Object")) (rmC 2 0 0) 0 0 [.ref a, .int (nI j)] (alW X a e cap f c n) (eqQ (some (.ref x)) (alW X a e cap f c n)) := sorry
set_option maxHeartbeats 4000000 in
theorem w_intV (X : xT) (q : Nat) (z : Int32) : MetQ X yJ18_intValue cJ18_intValue 1 (some .int) (rmC 0 0 0) 0 0 [.ref q] [(q, .inr (18, [.int z]))] (eqQ (some (.int z)) [(q, .inr (18, [.int z]))]) := sorry
set_option maxHeartbeats 4000000 in
theorem w_numInit (X : xT) (a : Nat) : MetQ X yJ17_init cJ17_init 1 none (rmC 1 0 0) 0 0 [.ref a] [] (eqQ none []) := sorry
set_option maxHeartbeats 4000000 in
theorem w_intInit (X : xT) (q : Nat) (z : Int32) : MetQ X yJ18_init cJ18_init 2 none (rmC 2 0 0) 0 0 [.ref q, .int z] [(q, .inr (18, [.int 0]))] (eqQ none [(q, .inr (18, [.int z]))]) := sorry
