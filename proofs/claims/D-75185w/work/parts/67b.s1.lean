set_option maxRecDepth 100000
theorem sub_le0 {a b : Nat} (h : a ≤ b) (hb : b ≤ 500000) : nI a - nI b ≤ 0 := sorry
theorem sub_nle0 {a b : Nat} (h : b < a) (hb : a ≤ 500000) : ¬ nI a - nI b ≤ 0 := sorry
/-- a byte that is a plain sign -/
def asc (x : Int32) : Prop := ∃ n : Nat, n < 128 ∧ x = nI n
theorem asc_all (P : Int32 → Prop) (h : ∀ n : Fin 128, P (nI n.val)) {x : Int32} (hx : asc x) : P x := sorry
theorem asc_fit {x : Int32} (h : asc x) : fits .byte (.int x) = true := sorry
theorem asc_nar {x : Int32} (h : asc x) : vp_nar .byte (x.toInt8.toInt32) = x := sorry
theorem asc_nar1 {x : Int32} (h : asc x) : vp_nar .byte x = x := sorry
theorem asc_c {x : Int32} (h : asc x) : (x.toUInt32 % 65536).toInt32 = x := sorry
theorem asc_and {x : Int32} (h : asc x) : x &&& 255 = x := sorry
theorem asc_enc {x : Int32} (h : asc x) : ¬ (255 : Int32) < x := sorry
theorem asc_nc {x : Int32} (h : asc x) : narrow .char (.int x) = .int x := sorry
theorem asc_0 : asc 0 := sorry
theorem asc_n {n : Nat} (h : n < 128) : asc (nI n) := sorry
def capN (cap m : Nat) : Nat := cap + (if m - cap < cap + 2 then cap + 2 else m - cap)
/-- all bytes below n are plain -/
def ascN (f : Nat → Int32) (n : Nat) : Prop := ∀ i, i < n → asc (f i)
theorem ascN_cpy {f : Nat → Int32} {c n : Nat} (h : ascN f c) : ascN (va_cpy f (fun _ => 0) 0 0 c) n := sorry
theorem ascN_upd {f : Nat → Int32} {n j : Nat} {x : Int32} (h : ascN f n) (hx : asc x) : ascN (upd f j x) n := sorry
set_option maxHeartbeats 4000000 in
theorem w_SBlat (X : xT) (sb va ct : Nat) (ml : Int32) : MetQ X yJ8_isLatin1 cJ8_isLatin1 1 (some .boolean) (rmC 0 0 0) 0 0 [.ref sb] [(sb, .inr (16, [.ref va, .int (0 : Int32), .int ml, .int (nI ct)]))] (eqQ (some (.int 1)) [(sb, .inr (16, [.ref va, .int (0 : Int32), .int ml, .int (nI ct)]))]) := sorry
set_option maxHeartbeats 4000000 in
theorem w_SBlen8 (X : xT) (sb va ct : Nat) (ml : Int32) : MetQ X yJ8_length cJ8_length 1 (some .int) (rmC 0 0 0) 0 0 [.ref sb] [(sb, .inr (16, [.ref va, .int (0 : Int32), .int ml, .int (nI ct)]))] (eqQ (some (.int (nI ct))) [(sb, .inr (16, [.ref va, .int (0 : Int32), .int ml, .int (nI ct)]))]) := sorry
set_option maxHeartbeats 4000000 in
theorem w_SBval (X : xT) (sb va ct : Nat) (ml : Int32) : MetQ X yJ8_getValue cJ8_getValue 1 (some (.array .byte)) (rmC 0 0 0) 0 0 [.ref sb] [(sb, .inr (16, [.ref va, .int (0 : Int32), .int ml, .int (nI ct)]))] (eqQ (some (.ref va)) [(sb, .inr (16, [.ref va, .int (0 : Int32), .int ml, .int (nI ct)]))]) := sorry
set_option maxHeartbeats 4000000 in
theorem w_SBlen (X : xT) (sb va ct : Nat) (ml : Int32) : MetQ X yJ9_length cJ9_length 1 (some .int) (rmC 1 0 0) 0 0 [.ref sb] [(sb, .inr (16, [.ref va, .int (0 : Int32), .int ml, .int (nI ct)]))] (eqQ (some (.int (nI ct))) [(sb, .inr (16, [.ref va, .int (0 : Int32), .int ml, .int (nI ct)]))]) := sorry
set_option maxHeartbeats 4000000 in
theorem w_canEnc (X : xT) (x : Int32) (hx : asc x) : MetQ X yJ16_canEncode cJ16_canEncode 1 (some .boolean) (rmC 0 0 0) 0 0 [.int x] [] (eqQ (some (.int 1)) []) := sorry
set_option maxHeartbeats 4000000 in
theorem w_SBinit8 (X : xT) (sb : Nat) : MetQ X yJ8_init cJ8_init 2 none (rmC 1 1 16) 1 16 [.ref sb, .int 16] [(sb, .inr (16, [.null, .int (0 : Int32), .int (0 : Int32), .int (0 : Int32)]))] (fun r w => r = none ∧ ∃ va : Nat, w = [(sb, .inr (16, [.ref va, .int (0 : Int32), .int (0 : Int32), .int (nI 0)])), (va, .inl (xY X 3, 16, .inl (fun _ => 0)))]) := sorry
set_option maxHeartbeats 4000000 in
theorem w_SBinit (X : xT) (sb : Nat) : MetQ X yJ9_init cJ9_init 1 none (rmC 2 1 16) 1 16 [.ref sb] [(sb, .inr (16, [.null, .int (0 : Int32), .int (0 : Int32), .int (0 : Int32)]))] (fun r w => r = none ∧ ∃ va : Nat, w = [(sb, .inr (16, [.ref va, .int (0 : Int32), .int (0 : Int32), .int (nI 0)])), (va, .inl (xY X 3, 16, .inl (fun _ => 0)))]) := sorry
set_option maxHeartbeats 4000000 in
theorem w_SBcap (X : xT) (sb va cap ct : Nat) (ml : Int32) (f : Nat → Int32) (m : Nat) (h1 : cap < m) (h2 : m ≤ 50000) : MetQ X yJ8_newCapacity cJ8_newCapacity 6 (some .int) (rmC 2 0 0) 0 0 [.ref sb, .int (nI m)] [(sb, .inr (16, [.ref va, .int (0 : Int32), .int ml, .int (nI ct)])), (va, .inl (xY X 3, cap, .inl f))] (eqQ (some (.int (nI (capN cap m)))) [(sb, .inr (16, [.ref va, .int (0 : Int32), .int ml, .int (nI ct)])), (va, .inl (xY X 3, cap, .inl f))]) := sorry
set_option maxHeartbeats 4000000 in
theorem w_copyOfB (X : xT) (va cap n : Nat) (f : Nat → Int32) (hf : ascN f cap) (h1 : cap < n) (h2 : n ≤ 500000) : MetQ X yJ14_copyOf cJ14_copyOf 3 (some (.array .byte)) (rmC 1 1 n) 1 n [.ref va, .int (nI n)] [(va, .inl (xY X 3, cap, .inl f))] (fun r w => ∃ q : Nat, r = some (.ref q) ∧ w = [(va, .inl (xY X 3, cap, .inl f)), (q, .inl (xY X 3, n, .inl (va_cpy f (fun _ => 0) 0 0 cap)))]) := sorry
set_option maxHeartbeats 4000000 in
theorem w_SBens0 (X : xT) (sb va cap ct : Nat) (ml : Int32) (f : Nat → Int32) (m : Nat) (h1 : m ≤ cap) (h2 : cap ≤ 500000) : MetQ X yJ8_ensureCapacityInternal cJ8_ensureCapacityInternal 3 none (rmC 3 0 0) 0 0 [.ref sb, .int (nI m)] [(sb, .inr (16, [.ref va, .int (0 : Int32), .int ml, .int (nI ct)])), (va, .inl (xY X 3, cap, .inl f))] (eqQ none [(sb, .inr (16, [.ref va, .int (0 : Int32), .int ml, .int (nI ct)])), (va, .inl (xY X 3, cap, .inl f))]) := sorry
set_option maxHeartbeats 4000000 in
theorem w_SBens1 (X : xT) (sb va cap ct : Nat) (ml : Int32) (f : Nat → Int32) (m : Nat) (hf : ascN f cap) (h1 : cap < m) (h2 : m ≤ 50000) : MetQ X yJ8_ensureCapacityInternal cJ8_ensureCapacityInternal 3 none (rmC 3 1 (capN cap m)) 1 (capN cap m) [.ref sb, .int (nI m)] [(sb, .inr (16, [.ref va, .int (0 : Int32), .int ml, .int (nI ct)])), (va, .inl (xY X 3, cap, .inl f))] (fun r w => r = none ∧ ∃ va2 : Nat, w = [(sb, .inr (16, [.ref va2, .int (0 : Int32), .int ml, .int (nI ct)])), (va2, .inl (xY X 3, (capN cap m), .inl (va_cpy f (fun _ => 0) 0 0 cap)))]) := sorry
set_option maxHeartbeats 4000000 in
theorem w_SBapC8a (X : xT) (sb va cap ct : Nat) (ml : Int32) (f : Nat → Int32) (x : Int32) (hx : asc x) (h1 : ct < cap) (h2 : cap ≤ 20000) : MetQ X yJ8_append_3 cJ8_append_3 2 (some (.object "java/lang/AbstractStringBuilder")) (rmC 4 0 0) 0 0 [.ref sb, .int x] [(sb, .inr (16, [.ref va, .int (0 : Int32), .int ml, .int (nI ct)])), (va, .inl (xY X 3, cap, .inl f))] (eqQ (some (.ref sb)) [(sb, .inr (16, [.ref va, .int (0 : Int32), .int ml, .int (nI (ct + 1))])), (va, .inl (xY X 3, cap, .inl (upd f ct x)))]) := sorry
set_option maxHeartbeats 4000000 in
theorem w_SBapCa (X : xT) (sb va cap ct : Nat) (ml : Int32) (f : Nat → Int32) (x : Int32) (hx : asc x) (h1 : ct < cap) (h2 : cap ≤ 20000) : MetQ X yJ9_append_3 cJ9_append_3 2 (some (.object "java/lang/StringBuilder")) (rmC 5 0 0) 0 0 [.ref sb, .int x] [(sb, .inr (16, [.ref va, .int (0 : Int32), .int ml, .int (nI ct)])), (va, .inl (xY X 3, cap, .inl f))] (eqQ (some (.ref sb)) [(sb, .inr (16, [.ref va, .int (0 : Int32), .int ml, .int (nI (ct + 1))])), (va, .inl (xY X 3, cap, .inl (upd f ct x)))]) := sorry
set_option maxHeartbeats 4000000 in
theorem w_SBapC8b (X : xT) (sb va cap ct : Nat) (ml : Int32) (f : Nat → Int32) (x : Int32) (hx : asc x) (hf : ascN f cap) (h1 : ct = cap) (h2 : cap ≤ 20000) : MetQ X yJ8_append_3 cJ8_append_3 2 (some (.object "java/lang/AbstractStringBuilder")) (rmC 4 1 (capN cap (ct + 1))) 1 (capN cap (ct + 1)) [.ref sb, .int x] [(sb, .inr (16, [.ref va, .int (0 : Int32), .int ml, .int (nI ct)])), (va, .inl (xY X 3, cap, .inl f))] (fun r w => r = some (.ref sb) ∧ ∃ va2 : Nat, w = [(sb, .inr (16, [.ref va2, .int (0 : Int32), .int ml, .int (nI (ct + 1))])), (va2, .inl (xY X 3, (capN cap (ct + 1)), .inl (upd (va_cpy f (fun _ => 0) 0 0 cap) ct x)))]) := sorry
set_option maxHeartbeats 4000000 in
theorem w_SBapCb (X : xT) (sb va cap ct : Nat) (ml : Int32) (f : Nat → Int32) (x : Int32) (hx : asc x) (hf : ascN f cap) (h1 : ct = cap) (h2 : cap ≤ 20000) : MetQ X yJ9_append_3 cJ9_append_3 2 (some (.object "java/lang/StringBuilder")) (rmC 5 1 (capN cap (ct + 1))) 1 (capN cap (ct + 1)) [.ref sb, .int x] [(sb, .inr (16, [.ref va, .int (0 : Int32), .int ml, .int (nI ct)])), (va, .inl (xY X 3, cap, .inl f))] (fun r w => r = some (.ref sb) ∧ ∃ va2 : Nat, w = [(sb, .inr (16, [.ref va2, .int (0 : Int32), .int ml, .int (nI (ct + 1))])), (va2, .inl (xY X 3, (capN cap (ct + 1)), .inl (upd (va_cpy f (fun _ => 0) 0 0 cap) ct x)))]) := sorry
