/-! keeping a State: the past of the driver beside the model's history -/
set_option maxRecDepth 100000
theorem RS_c {r r' : Nat → Int32} {v : MV} (h : RS r v) (h19 : inN (r 19) 0 24) (e : ∀ j, j < 941 → r' j = r j) : RS r' v := sorry
theorem SI_c {J : va_W} {nb : Nat → Prop} {row row' : Nat → Int32} {r : stR} (h : SI J nb row r) (e : ∀ j, j < 941 → row' j = row j) : SI J nb row' r := sorry
theorem SI_J {J K : va_W} {nb : Nat → Prop} {row : Nat → Int32} {r : stR} (h : SI J nb row r) (hs : ∀ c ∈ J, c ∈ K) : SI K nb row r := sorry
theorem thR_c {u m : MV} (e : ∀ a j, a = 10 ∨ a = 13 → u.1 a j = m.1 a j) : thR u = thR m := sorry
/-- the rows of the history when one more comes -/
theorem hi_rec {m : MV} {n : Nat} (h4 : m.1 4 0 = nI n) (h8 : n ≤ 8) : (p_record (up m 0 0 0)).1 4 0 = nI ((if n = 8 then 7 else n) + 1) ∧ ∀ k j, j < 941 → k ≤ (if n = 8 then 7 else n) → hiR (p_record (up m 0 0 0)) k j = if k = (if n = 8 then 7 else n) then m.1 1 j else hiR m (if n = 8 then k + 1 else k) j := sorry
/-- the addresses behind: the past's array, head and tail are new -/
def adP (ad : Nat → Nat) (e hd tl : Nat) : Nat → Nat := fun k => if k = 140 then e else if k = 142 then hd else if k = 143 then tl else ad k
/-- the State that leaves the past when there are eight -/
def drS (S : List stR) : List stR := if S.length = 8 then S.take 1 else []
theorem kpl_map {α β : Type} (g : α → β) (S : List α) : kpl (S.map g) = (kpl S).map g := sorry
theorem kpl_get {α : Type} {S : List α} {k : Nat} {r : α} (h : (kpl S)[k]? = some r) : S[if S.length = 8 then k + 1 else k]? = some r := sorry
theorem kpl_l {α : Type} {S : List α} (h : S.length ≤ 8) : (kpl S).length = if S.length = 8 then 7 else S.length := sorry
theorem paW_kp (X : xT) (d : Nat) (S : List stR) : (paW X d S) = paW X d (drS S) ++ paW X d (kpl S) := sorry
section KEEP
variable {X : xT} {m : MV} {ad : Nat → Nat} {dv sg : Nat → Int32} {v : MV} {b : Bool} {rl bg : Nat → Int32} {f fp fa : Nat → Option Nat} {vf : Nat → Int32} {ba bn : Nat → Nat} {L : List (Nat × Nat)} {l : List Int32} {S : List stR} {J : va_W}
theorem TX_fr {X : xT} {J K : va_W} {m u : MV} {ad : Nat → Nat} {sg : Nat → Int32} {fa : Nat → Option Nat} {ba bn : Nat → Nat} (h : TX X J m ad sg fa ba bn) (e : ∀ a j, 5 ≤ a → a ≤ 17 → u.1 a j = m.1 a j) (e2 : u.2 = m.2) (hs : ∀ c ∈ J, c ∈ K) : TX X K u ad sg fa ba bn := sorry
theorem IX_fr {m u : MV} {dv : Nat → Int32} {vf : Nat → Int32} {vc : Nat} {l : List Int32} (h : IX m dv vf vc l) (e : ∀ a j, (a = 19 ∨ a = 20 ∨ a = 23 ∨ a = 24 ∨ a = 34 ∨ a = 35) → u.1 a j = m.1 a j) : IX u dv vf vc l := sorry
/-- a State is kept: what stands behind it -/
theorem INV_keep {a9 : Nat → Nat} {e9 hp9 tp9 : Nat} {fp9 f9 : Nat → Option Nat} {bg9 : Nat → Int32} (h : INV X m ad dv sg v b rl bg f fp fa vf ba bn L l S J) (hk : kpQ a9 hp9 tp9 fp9 f9 bg9 rl bg (ad 141) (S.map (fun r => r.1 102)) L) :
    INV X (p_record (up m 0 0 0)) (adP ad e9 hp9 tp9) dv sg v b rl bg f fp9 fa vf ba bn L l (kpl S ++ [(a9, cpV v, b, rl, bg9, f9, L)]) (paW X (ad 100) (drS S) ++ J) := sorry
end KEEP

