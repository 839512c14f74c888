/-! a line 'batch' of the text by stages; once failed, the error stays -/
set_option maxRecDepth 100000
def bR9 (b : Nat) (z : MV) (x : Int32) : MV := if x = 0 then (lt_ (p_word (up z 33 b x) 9 : MV) (fun n11 => if p_failed n11 = 0 then up n11 26 0 (nI (b + 1)) else up n11 26 0 (nI (b + 0)))) else (lt_ (up z 33 b x : MV) (fun n11 => if p_failed n11 = 0 then up n11 26 0 (nI (b + 1)) else up n11 26 0 (nI (b + 0))))
def bR8 (b : Nat) (z : MV) : MV := lt_ ((p_accept z 8).2 : MV) (fun n10 => bR9 b n10 (vp_nar .boolean (p_accept z 8).1))
def bR7 (b : Nat) (z : MV) : MV := lt_ ((p_accept z 7).2 : MV) (fun n9 => bR8 b (up n9 32 b (vp_nar .boolean (p_accept z 7).1)))
def bR6 (b : Nat) (z : MV) : MV := lt_ (p_word z 6 : MV) (fun n7 => lt_ ((p_digits n7 1 6).2 : MV) (fun n8 => bR7 b (up n8 31 b (p_digits n7 1 6).1)))
def bR5 (b : Nat) (z : MV) : MV := lt_ (p_word z 5 : MV) (fun n5 => lt_ ((p_digits n5 0 999).2 : MV) (fun n6 => bR6 b (up n6 30 b (p_digits n5 0 999).1)))
def bR4 (b : Nat) (z : MV) : MV := lt_ (p_word z 4 : MV) (fun n3 => lt_ ((p_digits n3 1 40).2 : MV) (fun n4 => bR5 b (up n4 29 b (p_digits n3 1 40).1)))
def bR3 (b : Nat) (z : MV) : MV := lt_ (p_word z 3 : MV) (fun n1 => lt_ ((p_digits n1 0 999999).2 : MV) (fun n2 => bR4 b (up n2 28 b (p_digits n1 0 999999).1)))
theorem bl_eq (v : MV) : p_batchLine v = lt_ ((blN (p_packed v).2 (p_packed v).1 (nx (v.1 26 0))) : MV) (fun u => if p_failed u = 0 then bR3 (nx (v.1 26 0)) (upL (up (up u 22 0 (nI (skA u))) 22 0 (nI (weA u))) 27 (nx (v.1 26 0)) (p_packed v).1) else bR3 (nx (v.1 26 0)) (upL (up u 22 0 (u.1 22 0)) 27 (nx (v.1 26 0)) (p_packed v).1)) := sorry
/-- z has failed, and y tells the same error -/
def Fl (z y : MV) : Prop := ¬ p_failed z = 0 ∧ y.1 24 0 = z.1 24 0 ∧ y.1 23 0 = z.1 23 0
section FAILS
variable {z y : MV}
theorem Fl.no (h : Fl z y) : ¬ p_failed y = 0 := sorry
theorem Fl.rf (h : ¬ p_failed z = 0) : Fl z z := sorry
theorem Fl.up (h : Fl z y) {f i : Nat} {x : Int32} (hf : f ≠ 23 ∧ f ≠ 24) : Fl z (up y f i x) := sorry
theorem Fl.upL (h : Fl z y) {f i : Nat} {x : Int64} : Fl z (upL y f i x) := sorry
theorem Fl.fail (h : Fl z y) {a b : Int32} : Fl z (p_fail y a b) := sorry
theorem Fl.acc (h : Fl z y) {i : Nat} : Fl z (p_accept y i).2 := sorry
theorem Fl.word (h : Fl z y) {i : Nat} : Fl z (p_word y i) := sorry
theorem Fl.dig (h : Fl z y) {lo hi : Int32} : Fl z (p_digits y lo hi).2 := sorry
theorem Fl.ite {p : Prop} [Decidable p] {A B : MV} (h1 : Fl z A) (h2 : Fl z B) : Fl z (if p then A else B) := sorry
theorem Fl.r9 (h : Fl z y) {b : Nat} {x : Int32} : Fl z (bR9 b y x) := sorry
theorem Fl.r8 (h : Fl z y) {b : Nat} : Fl z (bR8 b y) := sorry
theorem Fl.r7 (h : Fl z y) {b : Nat} : Fl z (bR7 b y) := sorry
theorem Fl.r6 (h : Fl z y) {b : Nat} : Fl z (bR6 b y) := sorry
theorem Fl.r5 (h : Fl z y) {b : Nat} : Fl z (bR5 b y) := sorry
theorem Fl.r4 (h : Fl z y) {b : Nat} : Fl z (bR4 b y) := sorry
theorem Fl.r3 (h : Fl z y) {b : Nat} : Fl z (bR3 b y) := sorry
theorem Fl.bl (h : Fl z y) {its : Int64} : ∀ b, Fl z (blN y its b) := sorry
theorem Fl.line (h : Fl z y) {v : MV} {its : Int64} (e : blN (p_packed v).2 (p_packed v).1 (nx (v.1 26 0)) = y) : Fl z (p_batchLine v) := sorry
/-- the throw tells of z, so it tells of y -/
theorem Fl.pth (h : Fl z y) {dc tc : Nat × va_E} {E : String} {q : Nat} {w : va_W} (hp : PTh dc tc z E q w) : PTh dc tc y E q w := sorry
end FAILS
section LONG
variable {u : MV} {t : Nat → Int32} {pt : Nat}
theorem lg_isW {i : Nat} (h : 5 < weA u - skA u) (hi : i < 10) : p_isWord u i = 0 := sorry
theorem lg_word {i : Nat} (hu : PR u t pt) (h : 5 < weA u - skA u) (hi : i < 10) : ¬ p_failed (p_word u i) = 0 := sorry
theorem lg_acc {i : Nat} (hu : PR u t pt) (h : 5 < weA u - skA u) (hi : i < 10) : PR (p_accept u i).2 t (sk t pt) ∧ 5 < weA (p_accept u i).2 - skA (p_accept u i).2 := sorry
theorem lg_up {f i : Nat} {x : Int32} (hu : PR u t pt) (hf : f ≠ 19 ∧ f ≠ 21 ∧ f ≠ 22 ∧ f ≠ 23 ∧ f ≠ 24) (h : 5 < weA u - skA u) : 5 < weA (up u f i x) - skA (up u f i x) := sorry
theorem nar0 : vp_nar .boolean (0 : Int32) = 0 := sorry
theorem lg_9 {b : Nat} (hu : PR u t pt) (h : 5 < weA u - skA u) : ¬ p_failed (bR9 b u 0) = 0 := sorry
theorem lg_8 {b : Nat} (hu : PR u t pt) (h : 5 < weA u - skA u) : ¬ p_failed (bR8 b u) = 0 := sorry
theorem lg_7 {b : Nat} (hu : PR u t pt) (h : 5 < weA u - skA u) : ¬ p_failed (bR7 b u) = 0 := sorry
theorem lg_6 {b : Nat} (hu : PR u t pt) (h : 5 < weA u - skA u) : ¬ p_failed (bR6 b u) = 0 := sorry
theorem lg_5 {b : Nat} (hu : PR u t pt) (h : 5 < weA u - skA u) : ¬ p_failed (bR5 b u) = 0 := sorry
theorem lg_4 {b : Nat} (hu : PR u t pt) (h : 5 < weA u - skA u) : ¬ p_failed (bR4 b u) = 0 := sorry
theorem lg_3 {b : Nat} (hu : PR u t pt) (h : 5 < weA u - skA u) : ¬ p_failed (bR3 b u) = 0 := sorry
/-- the room of words: B letters -/
def bB (B : Nat) (z : MV) : Prop := B = 601 ∨ (B = 6 ∧ p_failed z = 0)
theorem bB.le {B : Nat} {z : MV} (h : bB B z) (hu : PR u t pt) (hl : 5 < weA u - skA u → ¬ p_failed z = 0) : weA u - skA u ≤ B := sorry
end LONG
/-! names, packed -/
def letF (f : Nat → Int32) (n : Nat) : Prop := ∀ j, j < n → 97 ≤ nx (f j) ∧ nx (f j) ≤ 122 ∧ f j = nI (nx (f j))
def pkN (f : Nat → Int32) : Nat → Nat
  | 0 => 0
  | k + 1 => pkN f k * 32 + (nx (f k) - 96)
theorem pkN_lt {f : Nat → Int32} : ∀ {n : Nat}, letF f n → pkN f n < 32 ^ n := sorry
theorem pk_st {a : Nat} {x : Int32} (hx : 97 ≤ nx x ∧ nx x ≤ 122 ∧ x = nI (nx x)) (ha : a < 2 ^ 40) : lN a * 32 + x.toInt64 - 96 = lN (a * 32 + (nx x - 96)) := sorry
theorem pk_lN {f : Nat → Int32} : ∀ {n : Nat}, letF f n → n ≤ 6 → pkF f 0 n = lN (pkN f n) := sorry
theorem pkF_c {f g : Nat → Int32} {a b : Nat} : ∀ {n : Nat}, (∀ j, j < n → f (a + j) = g (b + j)) → pkF f a n = pkF g b n := sorry
theorem pkN_inj {f g : Nat → Int32} : ∀ {n m : Nat}, letF f n → letF g m → pkN f n = pkN g m → n = m ∧ ∀ j, j < n → f j = g j := sorry
theorem lN_inj {a b : Nat} (ha : a < 2 ^ 60) (hb : b < 2 ^ 60) (h : lN a = lN b) : a = b := sorry
theorem cmp_eq (x y : Int64) : lg_cmp x y = 0 ↔ x = y := sorry
/-- names are alike if and only if they are packed alike -/
theorem nm_eq {f g : Nat → Int32} {n m : Nat} (h1 : letF f n) (h2 : letF g m) (hn : n ≤ 6) (hm : m ≤ 6) : eqT f n g m = 0 ↔ ¬ lg_cmp (pkF f 0 n) (pkF g 0 m) = 0 := sorry
