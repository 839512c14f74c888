/-! names and digits of the formatted text -/
set_option maxRecDepth 100000
/-- the name of batch b: a String in the pool, packed in the model -/
def nmR (X : xT) (P : va_W) (m : MV) (b n bs ln : Nat) (sf : Nat → Int32) : Prop := (n, Sum.inr (17, [.ref bs, .int (0 : Int32), .int (0 : Int32), .int (0 : Int32)])) ∈ P ∧ (bs, Sum.inl (xY X 3, ln, Sum.inl sf)) ∈ P ∧ (1 ≤ ln ∧ ln ≤ 6) ∧ letF sf ln ∧ m.2 11 b = pkF sf 0 ln
theorem liP_3 {P Pr : va_W} {L : List (Nat × Nat)} {a c d : Nat} {va vc : List Value} {x : ClassId × vp_A} (h : liP P L) (hp : P.Perm ([(a, Sum.inr (6, va)), (c, Sum.inr (17, vc)), (d, Sum.inl x)] ++ Pr)) : liP Pr L := sorry
theorem pkN_32 {f : Nat → Int32} {n : Nat} (h : letF f (n + 1)) : pkN f (n + 1) / 32 = pkN f n ∧ pkN f (n + 1) % 32 = nx (f n) - 96 ∧ pkN f (n + 1) ≠ 0 := sorry
theorem nmL_pk {f : Nat → Int32} : ∀ {n N : Nat}, letF f n → n ≤ N → nmL (N + 1) (pkN f n) = n := sorry
theorem pk_dig {f : Nat → Int32} : ∀ {n k : Nat}, letF f n → k < n → pkN f n / 32 ^ k % 32 + 96 = nx (f (n - 1 - k)) := sorry
/-- the letters of a packed name are those of the String -/
theorem nm_str {f : Nat → Int32} {n : Nat} (h : letF f n) (hn : n ≤ 6) : nmA (pkN f n) 0 = nmS f n := sorry
theorem nl_lN {a : Nat} (h : a < 2 ^ 60) : nl (lN a) = a := sorry
theorem nm_T {f : Nat → Int32} {n : Nat} {x : Int64} (h : letF f n) (hn : n ≤ 6) (hx : x = pkF f 0 n) : nmT (nl x) = nmS f n ++ [32] := sorry
theorem tn_nI : ∀ k, k < 7 → tens k = nI (10 ^ k) ∧ pwd (k + 1) = nI (10 ^ k) ∧ 10 ^ k ≤ 1000000 := sorry
/-- a digit of a number -/
theorem dg_1 {x : Int32} {N k : Nat} (hx : x = nI N) (hN : N < 1000000) (hk : k < 7) : ∃ d, d < 10 ∧ (x / tens k) - (x / tens k) / 10 * 10 = nI d ∧ fsD x (pwd (k + 1)) = nI (48 + d) := sorry
theorem num_N {m : MV} {b k : Nat} (hB : batOK m) (hb : b < nx (m.1 10 0)) (hk : k < 40) : ∃ N, p_numberOf m (40 * b + k) = nI N ∧ N < 1000000 := sorry
