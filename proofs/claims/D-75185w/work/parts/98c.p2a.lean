set_option maxRecDepth 100000
theorem g_athrowP {X : xT} {g : gT} {cc : ByteArray} {nL n k : Nat} {own : String} {ret : Option FieldType} {rm : Room} {ws : va_W} {pc : Nat} {lv : List (Nat × Value)} {st : List Value} {q ci N : Nat} {T : u_T} {fs : List Value} {E : String} (C : GC X g cc nL own ret rm) (hE : trb E = false) (q0 : Nat) (hq : ws[q0]? = some (q, .inr (ci, fs))) (hc : vwCl[ci]? = some (E, T, N)) (d : decode cc pc = .ok (.athrow, 1)) (kk : TH X g nL n k ws pc lv E q) : G X g nL n k ws pc lv (.ref q :: st) := sorry
/-- the error of a text, thrown -/
abbrev mfC (q : Nat) (a b : Int32) : Nat × va_E := (q, .inr (5, [.null, .null, .null, .null, .null, .int (0 : Int32), .int a, .int b]))
/-- the parser at pt stands beside the model's state u -/
def PR (u : MV) (t : Nat → Int32) (pt : Nat) : Prop := p_failed u = 0 ∧ p_byteAt u = t ∧ u.1 22 0 = nI pt ∧ pt ≤ 601 ∧ tOK u
/-- the model's state z has failed, and what is thrown says the same -/
def PTh (dc tc : Nat × va_E) (z : MV) : String → Nat → va_W → Prop := fun E q w => E = "LabelDriver$Malformed" ∧ ¬ p_failed z = 0 ∧ w = [mfC q (z.1 24 0) (z.1 23 0), dc, tc]
section PARS
variable {u : MV} {t : Nat → Int32} {pt : Nat}
theorem PR.f (h : PR u t pt) : p_failed u = 0 := sorry
theorem PR.b (h : PR u t pt) : p_byteAt u = t := sorry
theorem PR.le (h : PR u t pt) : pt ≤ 601 := sorry
theorem PR.ok (h : PR u t pt) : tOK u := sorry
theorem PR.n (h : PR u t pt) : nx (u.1 22 0) = pt := sorry
theorem PR.skE (h : PR u t pt) : skA u = sk t pt := sorry
theorem PR.weE (h : PR u t pt) : weA u = we t (sk t pt) := sorry
theorem PR.deE (h : PR u t pt) : deA u = de t (sk t pt) := sorry
theorem PR.at' (h : PR u t pt) {a : Nat} (ha : a ≤ 601) : PR (up u 22 0 (nI a)) t a := sorry
theorem PR.fr (h : PR u t pt) {f i : Nat} {x : Int32} (hf : f ≠ 19 ∧ f ≠ 21 ∧ f ≠ 22 ∧ f ≠ 23 ∧ f ≠ 24) : PR (up u f i x) t pt := sorry
theorem PR.frL (h : PR u t pt) {f i : Nat} {x : Int64} : PR (upL u f i x) t pt := sorry
theorem acc_v (u : MV) (i : Nat) : (p_accept u i).1 = p_isWord u i := sorry
theorem PR.acc0 (h : PR u t pt) {i : Nat} (q : p_isWord u i = 0) : PR (p_accept u i).2 t (sk t pt) := sorry
theorem PR.acc1 (h : PR u t pt) {i : Nat} (q : ¬ p_isWord u i = 0) : PR (p_accept u i).2 t (sk t pt + kLen.getD i 0) := sorry
theorem iwN_t {t : Nat → Int32} {a i n : Nat} : iwN t a i n = if ∀ j, j < n → t (a + j) = kch i j then 1 else 0 := sorry
theorem kch_kb : ∀ i : Fin 10, ∀ j : Fin 5, j.val < kLen.getD i.val 0 → kch i.val j.val = kb i.val j.val := sorry
theorem kLen5 : ∀ i : Fin 10, kLen.getD i.val 0 ≤ 5 := sorry
theorem we_lt {t : Nat → Int32} {a : Nat} (ha : a ≤ 601) : ∀ j, j < we t a - a → ltB (t (a + j)) = true := sorry
/-- the word at hand equals the constant: as the model has it -/
theorem eq_isW {tf sf : Nat → Int32} {sz i : Nat} (h : PR u (bt tf sz) pt) (hz : sz ≤ 600) (hb : byF tf) (hi : i < 10) (hs : ∀ j, j < we (bt tf sz) (sk (bt tf sz) pt) - sk (bt tf sz) pt → sf j = tf (sk (bt tf sz) pt + j)) : eqT sf (we (bt tf sz) (sk (bt tf sz) pt) - sk (bt tf sz) pt) (kb i) (kLen.getD i 0) = p_isWord u i := sorry
theorem dig_f {z : MV} {lo hi : Int32} (h : ¬ p_failed z = 0) : (p_digits z lo hi).2 = z := sorry
theorem fail_p {z : MV} {a b : Int32} (h : p_failed z = 0) (ha : ¬ a = 0) : ¬ p_failed (p_fail z a b) = 0 ∧ (p_fail z a b).1 24 0 = a ∧ (p_fail z a b).1 23 0 = b := sorry
/-- thrown as the model says -/
theorem pth {dc tc : Nat × va_E} {z y : MV} {q : Nat} {a b : Int32} (hz : p_failed y = 0) (ha : ¬ a = 0) (e : z = p_fail y a b) : PTh dc tc z "LabelDriver$Malformed" q [mfC q a b, dc, tc] := sorry
theorem dig_1 (h : PR u t pt) {lo hi : Int32} (c : de t (sk t pt) = sk t pt) : (p_digits u lo hi).2 = p_fail (up u 22 0 (nI (sk t pt))) 1 (nI (sk t pt)) := sorry
theorem dig_c (h : PR u t pt) {lo hi : Int32} (c : ¬ de t (sk t pt) = sk t pt) : p_digits u lo hi = if 6 < nI (de t (sk t pt) - sk t pt) then (dgF t (sk t pt) (de t (sk t pt) - sk t pt), p_fail (up u 22 0 (nI (de t (sk t pt)))) 2 (nI (sk t pt))) else if p_inRange (dgF t (sk t pt) (de t (sk t pt) - sk t pt)) lo hi = 0 then (dgF t (sk t pt) (de t (sk t pt) - sk t pt), p_fail (up u 22 0 (nI (de t (sk t pt)))) 2 (nI (sk t pt))) else (dgF t (sk t pt) (de t (sk t pt) - sk t pt), up u 22 0 (nI (de t (sk t pt)))) := sorry
end PARS
set_option maxHeartbeats 4000000 in
theorem w_Pchk (X : xT) (p rd dr sz pt : Nat) (b kd of : Int32) : MetX X yX5_check (.code yX5_check cX5_check 4 none) (rmC 5 1 8) 1 8 [.ref p, .int b, .int kd, .int of] [(p, .inr (4, [.ref rd, .int (nI sz), .int (nI pt), .ref dr]))] (fun r w => ¬ b = 0 ∧ r = none ∧ w = [(p, .inr (4, [.ref rd, .int (nI sz), .int (nI pt), .ref dr]))]) (fun E q w => b = 0 ∧ E = "LabelDriver$Malformed" ∧ w = [mfC q kd of, (p, .inr (4, [.ref rd, .int (nI sz), .int (nI pt), .ref dr]))]) := sorry
