/-! THE DRIVER BESIDE THE MODEL: DW X d m w: the world w holds the driver at d with all that it reaches, and stands beside the model's numbers m -/
set_option maxRecDepth 100000
/-- a State as it stands somewhere: addresses, numbers, roll or none, the roll's numbers and begins, the list's array, the list -/
abbrev stR := (Nat → Nat) × MV × Bool × (Nat → Int32) × (Nat → Int32) × (Nat → Option Nat) × List (Nat × Nat)
def stW (X : xT) (d : Nat) (r : stR) : va_W := stC X d r.1 r.2.1 r.2.2.1 r.2.2.2.1 r.2.2.2.2.1 r.2.2.2.2.2.1
/-- a serial that is there -/
def thR (m : MV) : Nat → Prop := fun z => z / 40 < nx (m.1 10 0) ∧ z % 40 < nx (m.1 13 (z / 40))
/-- a State beside a row of the model -/
def SI (J : va_W) (th : Nat → Prop) (row : Nat → Int32) (r : stR) : Prop :=
  RS row r.2.1 ∧ bnd row ∧ (r.2.2.1 = true → row 0 = 1 ∧ rollOK row ∧ rlR row r.2.2.2.1 r.2.2.2.2.1) ∧ (r.2.2.1 = false → ¬ row 0 = 1 ∧ row 9 = 0) ∧ (dqI (r.1 131) r.2.2.2.2.2.1 (r.1 132) (r.1 133) (r.2.2.2.2.2.2.map Prod.fst) ∧ r.1 131 ≤ 400) ∧ liP J r.2.2.2.2.2.2 ∧ liR row r.2.2.2.2.2.2 ∧ (∀ x ∈ r.2.2.2.2.2.2, th x.2) ∧ (r.2.2.2.2.2.2.map Prod.snd).Nodup ∧ (row 9 = 1 → ¬ row 11 + row 12 = 0) ∧ inN (row 3) 0 99
/-- what the text said: settings and batches -/
def TX (X : xT) (J : va_W) (m : MV) (ad : Nat → Nat) (sg : Nat → Int32) (fa : Nat → Option Nat) (ba bn : Nat → Nat) : Prop :=
  sgR m sg ∧ runH m ∧ baP J m fa ba bn ∧ batOK m ∧ (nx (m.1 10 0) ≤ ad 145 ∧ ad 145 ≤ 100 ∧ 1 ≤ m.1 5 0) ∧ ∀ b, b < nx (m.1 10 0) → ∃ (bs ln : Nat) (sf : Nat → Int32), nmR X J m b (bn b) bs ln sf
/-- the input and the formatted text -/
def IX (m : MV) (dv : Nat → Int32) (vf : Nat → Int32) (vc : Nat) (l : List Int32) : Prop :=
  (dv 1 = m.1 20 0 ∧ inN (m.1 20 0) 0 600 ∧ dv 2 = m.1 23 0 ∧ dv 3 = m.1 24 0 ∧ byF (m.1 19)) ∧ (sbI vf vc l ∧ l.length ≤ 120 ∧ m.1 35 0 = nI l.length ∧ ∀ i, i < l.length → l[i]? = some (m.1 34 i))
/-- row k of the model's history -/
def hiR (m : MV) (k : Nat) : Nat → Int32 := fun j => m.1 2 (941 * k + j)
/-- the nine cells behind the State -/
def c9 (X : xT) (m : MV) (ad : Nat → Nat) (f fp fa : Nat → Option Nat) (mc_ ml : Int32) (vf : Nat → Int32) (ct : Nat) : va_W :=
  [(ad 18, .inr (14, [.ref (ad 130), .int (nI (ad 132)), .int (nI (ad 133))])), (ad 130, .inl (xY X 4, ad 131, .inr (.inr (.inr (.inr f))))), (ad 111, .inr (14, [.ref (ad 140), .int (nI (ad 142)), .int (nI (ad 143))])), (ad 140, .inl (xY X 4, ad 141, .inr (.inr (.inr (.inr fp))))), (ad 114, .inr (15, [.int mc_, .ref (ad 144), .int (nI (nx (m.1 10 0)))])), (ad 144, .inl (xY X 4, ad 145, .inr (.inr (.inr (.inr fa))))), (ad 110, .inl (xY X 3, 600, .inl (m.1 19))), (ad 112, .inr (16, [.ref (ad 146), .int (0 : Int32), .int ml, .int (nI ct)])), (ad 146, .inl (xY X 3, ad 147, .inl vf))]
def roO (ad : Nat → Nat) (b : Bool) : Option Nat := if b then some (ad 120) else none
def roW (X : xT) (ad : Nat → Nat) (b : Bool) (rl bg : Nat → Int32) : va_W := if b then rW X ad rl bg [] else []
def paW (X : xT) (d : Nat) (S : List stR) : va_W := S.flatMap (stW X d)
def dW (X : xT) (m : MV) (ad : Nat → Nat) (dv sg : Nat → Int32) (v : MV) (b : Bool) (rl bg : Nat → Int32) (f fp fa : Nat → Option Nat) (mc_ ml : Int32) (vf : Nat → Int32) (ct : Nat) (S : List stR) (J : va_W) : va_W :=
  bW X ad dv sg (roO ad b) v (c9 X m ad f fp fa mc_ ml vf ct ++ (roW X ad b rl bg ++ (paW X (ad 100) S ++ J)))
/-- all that holds beside the world -/
def INV (X : xT) (m : MV) (ad : Nat → Nat) (dv sg : Nat → Int32) (v : MV) (b : Bool) (rl bg : Nat → Int32) (f fp fa : Nat → Option Nat) (vf : Nat → Int32) (ba bn : Nat → Nat) (L : List (Nat × Nat)) (l : List Int32) (S : List stR) (J : va_W) : Prop :=
  ad 113 = ad 102 ∧ SI J (thR m) (m.1 1) (ad, v, b, rl, bg, f, L) ∧ (b = true → bgOK m) ∧ (dqI (ad 141) fp (ad 142) (ad 143) (S.map (fun r => r.1 102)) ∧ 10 ≤ ad 141 ∧ ad 141 ≤ 400) ∧ (S.length ≤ 8 ∧ m.1 4 0 = nI S.length ∧ ∀ k r, S[k]? = some r → SI J (thR m) (hiR m k) r) ∧ TX X J m ad sg fa ba bn ∧ IX m dv vf (ad 147) l
def DW (X : xT) (d : Nat) (m : MV) (w : va_W) : Prop := ∃ (ad : Nat → Nat) (dv sg : Nat → Int32) (v : MV) (b : Bool) (rl bg : Nat → Int32) (f fp fa : Nat → Option Nat) (mc_ ml : Int32) (vf : Nat → Int32) (ba bn : Nat → Nat) (L : List (Nat × Nat)) (l : List Int32) (S : List stR) (J : va_W), ad 100 = d ∧ w.Perm (dW X m ad dv sg v b rl bg f fp fa mc_ ml vf l.length S J) ∧ INV X m ad dv sg v b rl bg f fp fa vf ba bn L l S J
theorem DW_perm {X : xT} {d : Nat} {m : MV} {w w2 : va_W} (h : DW X d m w) (hp : w.Perm w2) : DW X d m w2 := sorry
/-- the model's numbers matter but for 'thrown' and the row laid aside -/
theorem DW_fr {X : xT} {d : Nat} {m u : MV} {w : va_W} (h : DW X d m w) (e : ∀ a j, a ≠ 0 ∧ a ≠ 3 → u.1 a j = m.1 a j) (e2 : u.2 = m.2) : DW X d u w := sorry
section DWI
variable {X : xT} {m : MV} {ad : Nat → Nat} {dv sg : Nat → Int32} {v : MV} {b : Bool} {rl bg : Nat → Int32} {f fp fa : Nat → Option Nat} {vf : Nat → Int32} {ba bn : Nat → Nat} {L : List (Nat × Nat)} {l : List Int32} {S : List stR} {J : va_W}
theorem INV.h113 (h : INV X m ad dv sg v b rl bg f fp fa vf ba bn L l S J) : ad 113 = ad 102 := sorry
theorem INV.rs (h : INV X m ad dv sg v b rl bg f fp fa vf ba bn L l S J) : RS (m.1 1) v := sorry
theorem INV.bd (h : INV X m ad dv sg v b rl bg f fp fa vf ba bn L l S J) : bnd (m.1 1) := sorry
theorem INV.mo (h : INV X m ad dv sg v b rl bg f fp fa vf ba bn L l S J) (hb : b = true) : m.1 1 0 = 1 := sorry
theorem INV.cx (h : INV X m ad dv sg v b rl bg f fp fa vf ba bn L l S J) (hb : b = true) : CX m sg rl bg := sorry
theorem INV.nm (h : INV X m ad dv sg v b rl bg f fp fa vf ba bn L l S J) (hb : b = false) : ¬ m.1 1 0 = 1 := sorry
theorem INV.nr (h : INV X m ad dv sg v b rl bg f fp fa vf ba bn L l S J) (hb : b = false) : m.1 1 9 = 0 := sorry
theorem INV.d (h : INV X m ad dv sg v b rl bg f fp fa vf ba bn L l S J) : dqI (ad 131) f (ad 132) (ad 133) (L.map Prod.fst) := sorry
theorem INV.cap (h : INV X m ad dv sg v b rl bg f fp fa vf ba bn L l S J) : ad 131 ≤ 400 := sorry
theorem INV.lp (h : INV X m ad dv sg v b rl bg f fp fa vf ba bn L l S J) : liP J L := sorry
theorem INV.li (h : INV X m ad dv sg v b rl bg f fp fa vf ba bn L l S J) : liR (m.1 1) L := sorry
theorem INV.lt (h : INV X m ad dv sg v b rl bg f fp fa vf ba bn L l S J) : ∀ x ∈ L, x.2 / 40 < nx (m.1 10 0) := sorry
theorem INV.pi (h : INV X m ad dv sg v b rl bg f fp fa vf ba bn L l S J) : m.1 1 9 = 1 → ¬ m.1 1 11 + m.1 1 12 = 0 := sorry
theorem INV.dp (h : INV X m ad dv sg v b rl bg f fp fa vf ba bn L l S J) : dqI (ad 141) fp (ad 142) (ad 143) (S.map (fun r => r.1 102)) := sorry
theorem INV.pa (h : INV X m ad dv sg v b rl bg f fp fa vf ba bn L l S J) : m.1 4 0 = nI S.length := sorry
theorem INV.p8 (h : INV X m ad dv sg v b rl bg f fp fa vf ba bn L l S J) : S.length ≤ 8 := sorry
theorem INV.bp (h : INV X m ad dv sg v b rl bg f fp fa vf ba bn L l S J) : baP J m fa ba bn := sorry
theorem INV.rn (h : INV X m ad dv sg v b rl bg f fp fa vf ba bn L l S J) : runH m := sorry
theorem INV.bo (h : INV X m ad dv sg v b rl bg f fp fa vf ba bn L l S J) : batOK m := sorry
theorem INV.ca (h : INV X m ad dv sg v b rl bg f fp fa vf ba bn L l S J) : nx (m.1 10 0) ≤ ad 145 := sorry
theorem INV.ca2 (h : INV X m ad dv sg v b rl bg f fp fa vf ba bn L l S J) : ad 145 ≤ 100 := sorry
theorem INV.s5 (h : INV X m ad dv sg v b rl bg f fp fa vf ba bn L l S J) : 1 ≤ m.1 5 0 := sorry
theorem INV.sgr (h : INV X m ad dv sg v b rl bg f fp fa vf ba bn L l S J) : sgR m sg := sorry
theorem INV.nam (h : INV X m ad dv sg v b rl bg f fp fa vf ba bn L l S J) : ∀ b, b < nx (m.1 10 0) → ∃ (bs ln : Nat) (sf : Nat → Int32), nmR X J m b (bn b) bs ln sf := sorry
theorem INV.ix (h : INV X m ad dv sg v b rl bg f fp fa vf ba bn L l S J) : IX m dv vf (ad 147) l := sorry
end DWI
theorem baP_sub {P Q : va_W} {m : MV} {fa : Nat → Option Nat} {ba bn : Nat → Nat} (h : baP P m fa ba bn) (hs : ∀ c ∈ P, c ∈ Q) : baP Q m fa ba bn := sorry
theorem liP_sub {P Q : va_W} {L : List (Nat × Nat)} (h : liP P L) (hs : ∀ c ∈ P, c ∈ Q) : liP Q L := sorry
/-- what a reader of the driver does: it answers as the model, and nothing changes -/
def rdQ (X : xT) (d : Nat) (p : Int32 × MV) : Option Value → va_W → Prop := fun r w => p.2.1 0 0 = 0 ∧ r = some (.int p.1) ∧ DW X d p.2 w
def rdT (X : xT) (d : Nat) (ex : Int32 → String) (p : Int32 × MV) : String → Nat → va_W → Prop := fun E _ w => ¬ p.2.1 0 0 = 0 ∧ E = ex (p.2.1 0 0) ∧ DW X d p.2 w
theorem rd_lift {X : xT} {d : Nat} {m : MV} {w wc wr : va_W} {y : MethodName} {cw : Cond} {rm : Room} {mc ms : Nat} {av : List Value} {p : Int32 × MV} {ex : Int32 → String} (hD : DW X d p.2 w) (hM : MetX X y cw rm mc ms av wc (dQ wc p) (dT wc ex p)) (hp : w.Perm (wc ++ wr)) : MetX X y cw rm mc ms av w (rdQ X d p) (rdT X d ex p) := sorry
/-- behind the State cells l, a pool R ++ P with the roll R: the roll first -/
theorem pmS {α : Type} (B l R P : List α) (ix iy : List Nat) (h : (List.range l.length).isPerm (ix ++ iy) = true) : (B ++ (l ++ (R ++ P))).Perm ((B ++ (R ++ (ix.filterMap (fun i => l[i]?) ++ P))) ++ iy.filterMap (fun i => l[i]?)) := sorry
