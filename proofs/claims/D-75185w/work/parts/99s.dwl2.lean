/-! load over DW -/
set_option maxRecDepth 100000
def ldZ (q : MV) : MV := up (up (up (up (up (up q 5 0 (q.1 25 0)) 6 0 (q.1 25 1)) 7 0 (q.1 25 2)) 8 0 (q.1 25 3)) 9 0 (q.1 25 4)) 10 0 (q.1 26 0)
def ldM (q : MV) : MV := up (upR (ldN (ldZ q) 6) 1 (zsR ((ldN (ldZ q) 6).1 1) 941)) 4 0 0
theorem load_good {m : MV} (h : p_failed (p_parse (up m 0 0 0)) = 0) : p_load m = ((p_parse (up m 0 0 0)).1 26 0, ldM (p_parse (up m 0 0 0))) := sorry
theorem load_bad {m : MV} (h : ¬ p_failed (p_parse (up m 0 0 0)) = 0) : p_load m = (0, up (p_parse (up m 0 0 0)) 0 0 1) := sorry
theorem ldZ_ne {q : MV} {a j : Nat} (h : a < 5 ∨ 10 < a) : (ldZ q).1 a j = q.1 a j := sorry
theorem ldM_ne {q : MV} {a j : Nat} (h : a ≠ 1 ∧ a ≠ 4 ∧ (a < 5 ∨ 17 < a)) : (ldM q).1 a j = q.1 a j := sorry
theorem ldM_se {q : MV} : (ldM q).1 5 0 = q.1 25 0 ∧ (ldM q).1 6 0 = q.1 25 1 ∧ (ldM q).1 7 0 = q.1 25 2 ∧ (ldM q).1 8 0 = q.1 25 3 ∧ (ldM q).1 9 0 = q.1 25 4 ∧ (ldM q).1 10 0 = q.1 26 0 := sorry
theorem ldM_ba {q : MV} {b : Nat} (hb : b < 6) : (ldM q).1 12 b = q.1 28 b ∧ (ldM q).1 13 b = q.1 29 b ∧ (ldM q).1 14 b = q.1 30 b ∧ (ldM q).1 15 b = q.1 31 b ∧ (ldM q).1 16 b = vp_nar .boolean (q.1 32 b) ∧ (ldM q).1 17 b = vp_nar .boolean (q.1 33 b) ∧ (ldM q).2 11 b = q.2 27 b := sorry
theorem ldM_row {q : MV} {j : Nat} (hj : j < 941) : (ldM q).1 1 j = 0 := sorry
theorem ldM_4 {q : MV} : (ldM q).1 4 0 = 0 := sorry
/-- a new State beside a row of zeros -/
theorem SI_0 {J : va_W} {nb : Nat → Prop} {row : Nat → Int32} {a : Nat → Nat} (h : ∀ j, j < 941 → row j = 0) (h1 : a 131 = 5) (h2 : a 132 = 0) (h3 : a 133 = 0) : SI J nb row (a, ((fun _ _ => 0, fun _ _ => 0) : MV), false, (fun _ => 0), (fun _ => 0), (fun _ => none), []) := sorry
theorem i32_le_trans {a b c : Int32} (h1 : a ≤ b) (h2 : b ≤ c) : a ≤ c := sorry
/-- the batches that were read, as the driver has them -/
theorem br_tx {X : xT} {Nw K : va_W} {q : MV} {ca : Nat} {fa : Nat → Option Nat} {LB : List Nat} {ad : Nat → Nat} (h : BR X Nw q ca fa LB) (hk : prK q) (hs : ∀ c ∈ Nw, c ∈ K) (had : ad 145 = ca) : ∃ ba bn : Nat → Nat, TX X K (ldM q) ad (fun k => q.1 25 (k - 1)) fa ba bn := sorry
def adL (ad : Nat → Nat) (rd s9 n8 n15 n16 n17 nl ne al ea ca : Nat) : Nat → Nat := fun k => if k = 101 then rd else if k = 102 then s9 else if k = 113 then s9 else if k = 8 then n8 else if k = 15 then n15 else if k = 16 then n16 else if k = 17 then n17 else if k = 18 then nl else if k = 130 then ne else if k = 131 then 5 else if k = 132 then 0 else if k = 133 then 0 else if k = 114 then al else if k = 144 then ea else if k = 145 then ca else if k = 142 then 0 else if k = 143 then 0 else ad k
def al2 (X : xT) (m : MV) (ad : Nat → Nat) (fa : Nat → Option Nat) (mc_ : Int32) : va_W := [(ad 114, .inr (15, [.int mc_, .ref (ad 144), .int (nI (nx (m.1 10 0)))])), (ad 144, .inl (xY X 4, ad 145, .inr (.inr (.inr (.inr fa)))))]
def tpC (X : xT) (m : MV) (ad : Nat → Nat) : va_W := [(ad 110, .inl (xY X 3, 600, .inl (m.1 19)))]
def sb2 (X : xT) (ad : Nat → Nat) (ml : Int32) (vf : Nat → Int32) (ct : Nat) : va_W := [(ad 112, .inr (16, [.ref (ad 146), .int (0 : Int32), .int ml, .int (nI ct)])), (ad 146, .inl (xY X 3, ad 147, .inl vf))]
theorem c5_b (X : xT) (m : MV) (ad : Nat → Nat) (fa : Nat → Option Nat) (mc_ ml : Int32) (vf : Nat → Int32) (ct : Nat) : c5 X m ad fa mc_ ml vf ct = al2 X m ad fa mc_ ++ (tpC X m ad ++ sb2 X ad ml vf ct) := sorry
set_option maxHeartbeats 4000000 in
theorem D_load {X : xT} {d : Nat} {m : MV} {w : va_W} (h : DW X d m w) : MetX X yX1_load (.codeWith yX1_load cX1_load 3 (some .int) [(18, 22, 25, 74)]) (rmC 18 4330 60700) 4330 60700 [.ref d] w (rdQ X d (p_load m)) (rdT X d exA (p_load m)) := sorry
