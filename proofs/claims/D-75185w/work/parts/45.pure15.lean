/-! the text goes on: where we are never falls -/
set_option maxRecDepth 100000
def tA (v : MV) (m : Nat) : Prop := tOK v ∧ m ≤ nx (v.1 22 0)
theorem tA_at {v : MV} {m a : Nat} (h : tA v m) (h1 : nx (v.1 22 0) ≤ a) (h2 : a ≤ 601) : tA (up v 22 0 (nI a)) m := sorry
theorem tA_up {v : MV} {m f i : Nat} {x : Int32} (hf : f ≠ 21 ∧ f ≠ 22) (h : tA v m) : tA (up v f i x) m := sorry
theorem tA_upL {v : MV} {m f i : Nat} {x : Int64} (h : tA v m) : tA (upL v f i x) m := sorry
theorem tA_id {v : MV} {m : Nat} (h : tA v m) : tA (up v 22 0 (v.1 22 0)) m := sorry
theorem tA_fail {v : MV} {m : Nat} {a b : Int32} (h : tA v m) : tA (p_fail v a b) m := sorry
theorem tA_sk {v : MV} {m : Nat} (h : tA v m) : tA (up v 22 0 (nI (skA v))) m := sorry
theorem tA_accept {v : MV} {m i : Nat} (h : tA v m) : tA (p_accept v i).2 m := sorry
theorem tA_word {v : MV} {m i : Nat} (h : tA v m) : tA (p_word v i) m := sorry
theorem tA_digits {v : MV} {m : Nat} {a b : Int32} (h : tA v m) : tA (p_digits v a b).2 m := sorry
theorem tA_packed {v : MV} {m : Nat} (h : tA v m) : tA (p_packed v).2 m := sorry
theorem tA_blN {u0 : MV} {its : Int64} {m : Nat} (h : tA u0 m) : ∀ b, tA (blN u0 its b) m := sorry
theorem tA_we {v : MV} {m : Nat} (h : tA v m) : tA (up (up v 22 0 (nI (skA v))) 22 0 (nI (weA v))) m := sorry
theorem tA_lt {X : MV} {f : MV → MV} {m : Nat} (hX : tA X m) (h : ∀ u : MV, tA u m → tA (f u) m) : tA (lt_ X f) m := sorry
theorem tA_ite {p : Prop} [Decidable p] {A B : MV} {m : Nat} (h1 : tA A m) (h2 : tA B m) : tA (if p then A else B) m := sorry
theorem tA_i {A : Int32} {f : Int32 → MV} {m : Nat} (h : ∀ x : Int32, tA (f x) m) : tA (lt_ A f) m := sorry
set_option maxHeartbeats 4000000 in
theorem tA_batchLine {v : MV} {m : Nat} (h : tA v m) : tA (p_batchLine v) m := sorry
set_option maxHeartbeats 4000000 in
theorem tA_line {v : MV} {m : Nat} (h : tA v m) : tA (p_line v) m := sorry
theorem n26_lt {X : MV} {f : MV → MV} (h : ∀ u : MV, inN ((f u).1 26 0) 0 6) : inN ((lt_ X f).1 26 0) 0 6 := sorry
theorem n26_up {u : MV} {n : Nat} (h : n ≤ 6) : inN ((up u 26 0 (nI n)).1 26 0) 0 6 := sorry
theorem n26_ite {p : Prop} [Decidable p] {A B : MV} (h1 : inN (A.1 26 0) 0 6) (h2 : inN (B.1 26 0) 0 6) : inN ((if p then A else B).1 26 0) 0 6 := sorry
theorem n26_i {A : Int32} {f : Int32 → MV} (h : ∀ u : Int32, inN ((f u).1 26 0) 0 6) : inN ((lt_ A f).1 26 0) 0 6 := sorry
theorem n26_batchLine {v : MV} (h : nx (v.1 26 0) ≤ 5) : inN ((p_batchLine v).1 26 0) 0 6 := sorry
/-- a line behind its look at 'batch' -/
def lnT (m2 : MV) : MV := (lt_ ((p_accept m2 0).2 : MV) (fun m3 =>
    (if (p_accept m2 0).1 = (0 : Int32) then (lt_ ((p_accept m3 1).2 : MV) (fun m7 =>
    (if (p_accept m3 1).1 = (0 : Int32) then (lt_ ((p_accept m7 2).2 : MV) (fun m10 =>
    (if (p_accept m7 2).1 = (0 : Int32) then (p_fail m10 (1 : Int32) (m10.1 22 0)) else (p_batchLine m10)))) else (lt_ ((p_digits m7 (0 : Int32) (300 : Int32)).2 : MV) (fun m8 =>
    (lt_ ((p_digits (up m8 25 3 (p_digits m7 (0 : Int32) (300 : Int32)).1) (1 : Int32) (300 : Int32)).2 : MV) (fun m9 =>
    (up m9 25 4 (p_digits (up m8 25 3 (p_digits m7 (0 : Int32) (300 : Int32)).1) (1 : Int32) (300 : Int32)).1)))))))) else (lt_ ((p_digits m3 (21 : Int32) (200 : Int32)).2 : MV) (fun m4 =>
    (lt_ ((p_digits (up m4 25 0 (p_digits m3 (21 : Int32) (200 : Int32)).1) (0 : Int32) (200 : Int32)).2 : MV) (fun m5 =>
    (lt_ ((p_digits (up m5 25 1 (p_digits (up m4 25 0 (p_digits m3 (21 : Int32) (200 : Int32)).1) (0 : Int32) (200 : Int32)).1) (0 : Int32) (20 : Int32)).2 : MV) (fun m6 =>
    (up m6 25 2 (p_digits (up m5 25 1 (p_digits (up m4 25 0 (p_digits m3 (21 : Int32) (200 : Int32)).1) (0 : Int32) (200 : Int32)).1) (0 : Int32) (20 : Int32)).1))))))))))
theorem line_eq (v : MV) : p_line v = lt_ ((up v 22 0 (nI (skA v))) : MV) (fun m1 => lt_ ((up m1 22 0 (nI (skA m1))) : MV) (fun m2 => if (p_isWord m1 2) = (0 : Int32) then lnT m2 else (if (nI (nx (v.1 26 0))) = (6 : Int32) then (p_fail m2 (4 : Int32) (m2.1 22 0)) else lnT m2))) := sorry
theorem n26_x {A : MV} {f : MV → MV} (h : ∀ u : MV, u = A → inN ((f u).1 26 0) 0 6) : inN ((lt_ A f).1 26 0) 0 6 := sorry
theorem n26_e {u v : MV} (e : u.1 26 0 = v.1 26 0) (h : inN (v.1 26 0) 0 6) : inN (u.1 26 0) 0 6 := sorry
theorem n26_tail {v m2 : MV} (T2 : tOK m2) (K2 : m2.1 26 0 = v.1 26 0) (h : inN (v.1 26 0) 0 6) (hb : nx (v.1 26 0) ≤ 5 ∨ p_isWord m2 2 = 0) : inN ((lnT m2).1 26 0) 0 6 := sorry
theorem n26_line {v : MV} (hT : tOK v) (h : inN (v.1 26 0) 0 6) : inN ((p_line v).1 26 0) 0 6 := sorry
/-- one turn of the parser, and n of them -/
def psB (u : MV) : MV := lt_ (p_line (up u 22 0 (nI (skA u)))) (fun l => if p_failed l = 0 then (if p_byteAt l (skA l) = 59 then up (up l 22 0 (nI (skA l))) 22 0 (nI (skA l + 1)) else up (p_fail (up l 22 0 (nI (skA l))) 1 (nI (skA l))) 22 0 (nI (skA l + 1))) else up l 22 0 (l.1 22 0 + 1))
def psN : Nat → MV → MV
  | 0, u => u
  | n + 1, u => if p_failed u = 0 then (if p_byteAt u (skA u) = -1 then up u 22 0 (nI (skA u)) else psN n (psB u)) else u
theorem psN_f {u : MV} (h : ¬ p_failed u = 0) (n : Nat) : psN n u = u := sorry
def ps0 (v : MV) : MV := (up (up (up (up (up (up (up (up (up (up (up v 21 0 (nI (nx (v.1 20 0)))) 20 0 (0 : Int32)) 22 0 (0 : Int32)) 23 0 (-1 : Int32)) 24 0 (0 : Int32)) 26 0 (0 : Int32)) 25 0 (50 : Int32)) 25 1 (40 : Int32)) 25 2 (5 : Int32)) 25 3 (0 : Int32)) 25 4 (20 : Int32))
def p_parse (v : MV) : MV := psN 602 (ps0 v)
theorem ps0_ok {v : MV} (h1 : nx (v.1 20 0) ≤ 600) : tOK (ps0 v) ∧ inN ((ps0 v).1 26 0) 0 6 ∧ 602 ≤ nx ((ps0 v).1 22 0) + 602 := sorry
theorem psB_ok {u : MV} (hT : tOK u) (hN : inN (u.1 26 0) 0 6) : p_failed (psB u) = 0 → tOK (psB u) ∧ inN ((psB u).1 26 0) 0 6 ∧ nx (u.1 22 0) + 1 ≤ nx ((psB u).1 22 0) := sorry
/-- the tables of the text, batch by batch -/
def ldN (q : MV) : Nat → MV
  | 0 => q
  | b + 1 => up (up (up (up (up (up (upL (ldN q b) 11 b ((ldN q b).2 27 b)) 12 b ((ldN q b).1 28 b)) 13 b ((ldN q b).1 29 b)) 14 b ((ldN q b).1 30 b)) 15 b ((ldN q b).1 31 b)) 16 b (vp_nar .boolean ((ldN q b).1 32 b))) 17 b (vp_nar .boolean ((ldN q b).1 33 b))
def zsR (r : Nat → Int32) (k : Nat) : Nat → Int32 := fun j => if j < k then 0 else r j
theorem zsR_0 (r : Nat → Int32) : zsR r 0 = r := sorry
theorem zsR_s (r : Nat → Int32) (k : Nat) : zsR r (k + 1) = upd (zsR r k) k 0 := sorry
/-! the formatted text -/
theorem pf_lI {a : Nat} (h : a < 2 ^ 63) : (lN a).toInt = (a : Int) := sorry
theorem pf_shr {a d : Nat} {D : Int64} (hD : (D.toBitVec.smod 64).toNat = d) (h : a < 2 ^ 62) : lN a >>> D = lN (a / 2 ^ d) := sorry
theorem nm_sm : ∀ k, k < 12 → (((nI (5 * k)).toInt64 &&& 63).toBitVec.smod 64).toNat = 5 * k := sorry
theorem nm_31 {y : Nat} (h : y < 2 ^ 62) : (lN y &&& 31).toInt32 = nI (y % 32) := sorry
/-- the letter at five-bit place k of a packed name -/
def nmC (m k : Nat) : Int32 := nI (m / 32 ^ k % 32 + 96)
theorem nm_c {m k : Nat} (hm : m < 2 ^ 30) (hk : k < 12) : ((lN m >>> ((nI (5 * k)).toInt64 &&& 63)) &&& 31).toInt32 + 96 = nmC m k := sorry
/-- how many letters a packed name has -/
def nmL : Nat → Nat → Nat
  | 0, _ => 0
  | n + 1, y => if y = 0 then 0 else nmL n (y / 32) + 1
theorem nmL_le : ∀ n y, nmL n y ≤ n := sorry
theorem nmL_0 (n : Nat) : nmL n 0 = 0 := sorry
def nl (x : Int64) : Nat := x.toNatClampNeg
def nmOK (v : MV) : Prop := ∀ b, b < nx (v.1 10 0) → v.2 11 b = lN (nl (v.2 11 b)) ∧ nl (v.2 11 b) < 2 ^ 30
theorem inR_nx {x a : Int32} {n : Nat} (hx : x = nI (nx x)) (hn : nx x ≤ n) (h : ¬ p_inRange a 0 (x - 1) = 0) : a = nI (nx a) ∧ nx a < nx x := sorry
