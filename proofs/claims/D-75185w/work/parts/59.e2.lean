set_option maxRecDepth 100000
set_option maxHeartbeats 4000000 in
theorem w_J1_inc (X : xT) (i : Nat) (m : Nat)  (hi : i < m) (hm : m ≤ 2000) : CS X yJ1_inc cJ1_inc 2 (some .int) 0 [.int (nI i), .int (nI m)] (some (.int (nI ((i + 1) % m)))) := sorry
theorem dec_1 {i m : Nat} (hi : i < m) (hm : m ≤ 2000) (h : (0 : Int32) ≤ nI i + (-1)) : nI i + (-1) = nI ((i + m - 1) % m) := sorry
theorem dec_0 {i m : Nat} (hi : i < m) (hm : m ≤ 2000) (h : ¬ (0 : Int32) ≤ nI i + (-1)) : nI (m - 1) = nI ((i + m - 1) % m) := sorry
theorem sub_1 {i j m : Nat} (hi : i < m) (hj : j < m) (hm : m ≤ 2000) (h : (0 : Int32) ≤ nI i - nI j) : nI i - nI j = nI (if i < j then i + m - j else i - j) := sorry
theorem sub_0 {i j m : Nat} (hi : i < m) (hj : j < m) (hm : m ≤ 2000) (h : ¬ (0 : Int32) ≤ nI i - nI j) : nI i - nI j + nI m = nI (if i < j then i + m - j else i - j) := sorry
set_option maxHeartbeats 4000000 in
theorem w_J1_dec (X : xT) (i : Nat) (m : Nat)  (hi : i < m) (hm : m ≤ 2000) : CS X yJ1_dec cJ1_dec 2 (some .int) 0 [.int (nI i), .int (nI m)] (some (.int (nI ((i + m - 1) % m)))) := sorry
set_option maxHeartbeats 4000000 in
theorem w_J1_sub (X : xT) (i : Nat) (j : Nat) (m : Nat)  (hi : i < m) (hj : j < m) (hm : m ≤ 2000) : CS X yJ1_sub cJ1_sub 3 (some .int) 0 [.int (nI i), .int (nI j), .int (nI m)] (some (.int (nI (if i < j then i + m - j else i - j)))) := sorry
set_option maxHeartbeats 4000000 in
theorem w_dqEmpty (X : xT) (a e cap hd tl : Nat) (f : Nat → Option Nat) (L : List Nat) (hD : dqI cap f hd tl L) : MetQ X yJ1_isEmpty cJ1_isEmpty 1 (some .boolean) (rmC 0 0 0) 0 0 [.ref a] (dqW X a e cap f hd tl) (eqQ (some (.int (if L = [] then 1 else 0))) (dqW X a e cap f hd tl)) := sorry
set_option maxHeartbeats 4000000 in
theorem w_dqSize (X : xT) (a e cap hd tl : Nat) (f : Nat → Option Nat) (L : List Nat) (hD : dqI cap f hd tl L) : MetQ X yJ1_size cJ1_size 1 (some .int) (rmC 1 0 0) 0 0 [.ref a] (dqW X a e cap f hd tl) (eqQ (some (.int (nI L.length))) (dqW X a e cap f hd tl)) := sorry
set_option maxHeartbeats 4000000 in
theorem w_dqAt (X : xT) (e cap j x : Nat) (f : Nat → Option Nat) (hj : j < cap) (hc : cap ≤ 2000) (hx : f j = some x) : MetQ X yJ1_elementAt cJ1_elementAt 2 (some (.object "java/lang/Object")) (rmC 0 0 0) 0 0 [.ref e, .int (nI j)] [(e, .inl (xY X 4, cap, .inr (.inr (.inr (.inr f)))))] (eqQ (some (.ref x)) [(e, .inl (xY X 4, cap, .inr (.inr (.inr (.inr f)))))]) := sorry
set_option maxHeartbeats 4000000 in
theorem w_dqNat (X : xT) (e cap j x : Nat) (f : Nat → Option Nat) (hj : j < cap) (hc : cap ≤ 2000) (hx : f j = some x) : MetQ X yJ1_nonNullElementAt cJ1_nonNullElementAt 3 (some (.object "java/lang/Object")) (rmC 0 0 0) 0 0 [.ref e, .int (nI j)] [(e, .inl (xY X 4, cap, .inr (.inr (.inr (.inr f)))))] (eqQ (some (.ref x)) [(e, .inl (xY X 4, cap, .inr (.inr (.inr (.inr f)))))]) := sorry
set_option maxHeartbeats 4000000 in
theorem w_dqFirst (X : xT) (a e cap hd tl x : Nat) (f : Nat → Option Nat) (L : List Nat) (hD : dqI cap f hd tl (x :: L)) : MetQ X yJ1_getFirst cJ1_getFirst 2 (some (.object "java/lang/Object")) (rmC 1 0 0) 0 0 [.ref a] (dqW X a e cap f hd tl) (eqQ (some (.ref x)) (dqW X a e cap f hd tl)) := sorry
set_option maxHeartbeats 4000000 in
theorem w_dqPollF (X : xT) (a e cap hd tl x : Nat) (f : Nat → Option Nat) (L : List Nat) (hD : dqI cap f hd tl (x :: L)) : MetQ X yJ1_pollFirst cJ1_pollFirst 4 (some (.object "java/lang/Object")) (rmC 1 0 0) 0 0 [.ref a] (dqW X a e cap f hd tl) (eqQ (some (.ref x)) (dqW X a e cap (va_up f hd none) ((hd + 1) % cap) tl)) := sorry
set_option maxHeartbeats 4000000 in
theorem w_dqRemF (X : xT) (a e cap hd tl x : Nat) (f : Nat → Option Nat) (L : List Nat) (hD : dqI cap f hd tl (x :: L)) : MetQ X yJ1_removeFirst cJ1_removeFirst 2 (some (.object "java/lang/Object")) (rmC 2 0 0) 0 0 [.ref a] (dqW X a e cap f hd tl) (eqQ (some (.ref x)) (dqW X a e cap (va_up f hd none) ((hd + 1) % cap) tl)) := sorry
