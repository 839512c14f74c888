/-! changing the driver: worlds and what stands beside them -/
set_option maxRecDepth 100000
theorem pmK {α : Type} {B cells oth c9 N R D K J PW KN : List α} (hc : (cells ++ oth).Perm c9) (e1 : PW = D ++ K) (e2 : KN = K ++ N) : ((B ++ (cells ++ (N ++ (R ++ (PW ++ J))))) ++ oth).Perm (B ++ (c9 ++ (R ++ (KN ++ (D ++ J))))) := sorry
theorem pmKS {α : Type} {B cells oth c9 N R D K J PW KN : List α} (hc : (cells ++ oth).Perm c9) (e1 : PW = D ++ K) (e2 : KN = K ++ N) : ((B ++ (R ++ (cells ++ (N ++ (PW ++ J))))) ++ oth).Perm (B ++ (c9 ++ (R ++ (KN ++ (D ++ J))))) := sorry
theorem paW_app (X : xT) (d : Nat) (S : List stR) (r : stR) : paW X d (S ++ [r]) = paW X d S ++ stW X d r := sorry
theorem paW_mem {X : xT} {d : Nat} {S : List stR} {J : va_W} : ∀ y ∈ S.map (fun r => r.1 102), ∃ fs, (y, Sum.inr (3, fs)) ∈ (paW X d S ++ J : va_W) := sorry
theorem paW_memR {X : xT} {d : Nat} {S : List stR} {J R : va_W} : ∀ y ∈ S.map (fun r => r.1 102), ∃ fs, (y, Sum.inr (3, fs)) ∈ (R ++ (paW X d S ++ J) : va_W) := sorry
/-- one number of a State and of the row changes, of those that nothing else hangs on -/
theorem SI_up {J : va_W} {nb : Nat → Prop} {row : Nat → Int32} {a : Nat → Nat} {v : MV} {b : Bool} {rl bg : Nat → Int32} {f0 : Nat → Option Nat} {L : List (Nat × Nat)} {f i : Nat} {x : Int32} (h : SI J nb row (a, v, b, rl, bg, f0, L)) (ho : okc f i) (h7 : f ≠ 7) (hj : cf f i = 8 ∨ (15 ≤ cf f i ∧ cf f i ≤ 17) ∨ (20 ≤ cf f i ∧ cf f i < 26) ∨ (125 ≤ cf f i ∧ cf f i < 605)) : SI J nb (upd row (cf f i) x) (a, up v f i x, b, rl, bg, f0, L) := sorry
section CUR
variable {X : xT} {m u : MV} {ad ad2 : Nat → Nat} {dv sg : Nat → Int32} {v v2 : MV} {b b2 : Bool} {rl bg rl2 bg2 : Nat → Int32} {f f2 fp fa : Nat → Option Nat} {vf : Nat → Int32} {ba bn : Nat → Nat} {L L2 : List (Nat × Nat)} {l : List Int32} {S : List stR} {J K : va_W}
/-- the State in use changes -/
theorem INV_cur (h : INV X m ad dv sg v b rl bg f fp fa vf ba bn L l S J) (e : ∀ a j, a ≠ 0 → a ≠ 1 → a ≠ 18 → u.1 a j = m.1 a j) (e2 : u.2 = m.2) (had : ∀ k, k = 113 ∨ k = 102 ∨ k = 141 ∨ k = 142 ∨ k = 143 ∨ k = 145 ∨ k = 147 → ad2 k = ad k) (hs : SI K (thR m) (u.1 1) (ad2, v2, b2, rl2, bg2, f2, L2)) (hb : b2 = true → bgOK u) (hJ : ∀ c ∈ J, c ∈ K) : INV X u ad2 dv sg v2 b2 rl2 bg2 f2 fp fa vf ba bn L2 l S K := sorry
end CUR
section ROO
variable {X : xT} {m : MV} {ad : Nat → Nat} {dv sg : Nat → Int32} {v : MV} {b : Bool} {rl bg : Nat → Int32} {f fp fa : Nat → Option Nat} {vf : Nat → Int32} {ba bn : Nat → Nat} {L : List (Nat × Nat)} {l : List Int32} {S : List stR} {J : va_W}
theorem INV.z9 (h : INV X m ad dv sg v b rl bg f fp fa vf ba bn L l S J) : v.1 9 0 = 0 ∨ v.1 9 0 = 1 := sorry
theorem INV.z10 (h : INV X m ad dv sg v b rl bg f fp fa vf ba bn L l S J) : v.1 10 0 = 0 ∨ v.1 10 0 = 1 := sorry
theorem INV.rl0 (h : INV X m ad dv sg v b rl bg f fp fa vf ba bn L l S J) (hb : b = true) : rl 0 = nI (nx (rl 0)) ∧ nx (rl 0) ≤ 99 := sorry
theorem INV.ro (h : INV X m ad dv sg v b rl bg f fp fa vf ba bn L l S J) : ∃ P0, roP X ad (roO ad b) rl bg b (roW X ad b rl bg ++ (paW X (ad 100) S ++ J)) P0 := sorry
theorem INV.cp (h : INV X m ad dv sg v b rl bg f fp fa vf ba bn L l S J) : 10 ≤ ad 141 := sorry
theorem INV.cp4 (h : INV X m ad dv sg v b rl bg f fp fa vf ba bn L l S J) : ad 141 ≤ 400 := sorry
theorem INV.lp8 (h : INV X m ad dv sg v b rl bg f fp fa vf ba bn L l S J) : (S.map (fun r => r.1 102)).length ≤ 8 := sorry
theorem INV.nb6 (h : INV X m ad dv sg v b rl bg f fp fa vf ba bn L l S J) : nx (m.1 10 0) ≤ 6 := sorry
end ROO
theorem rec_2 (m : MV) : (p_record (up m 0 0 0)).2 = m.2 := sorry
theorem bgOK_fr {u m : MV} (h : bgOK m) (e : ∀ j, (3 ≤ j ∧ j ≤ 5) ∨ (26 ≤ j ∧ j < 125) → u.1 1 j = m.1 1 j) (e18 : ∀ j, u.1 18 j = m.1 18 j) (h3 : inN (m.1 1 3) 0 99) : bgOK u := sorry
