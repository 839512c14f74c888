/-! the formatted text over DW -/
set_option maxRecDepth 100000
/-- signs that are put stand in the row -/
theorem ptL_at : ∀ (l : List Int32) {u : MV} {c : Nat}, fO u c → c + l.length ≤ 900 → (∀ j, j < l.length → l[j]? = some ((ptL u l).1 34 (c + j))) ∧ (∀ j, j < c → (ptL u l).1 34 j = u.1 34 j) := sorry
theorem ptL_0 {u : MV} (l : List Int32) (h : u.1 35 0 = 0) (hl : l.length ≤ 120) : (ptL u l).1 35 0 = nI l.length ∧ ∀ i, i < l.length → l[i]? = some ((ptL u l).1 34 i) := sorry
theorem num_fr {u m : MV} (h : ∀ a j, a = 12 ∨ a = 14 ∨ a = 15 → u.1 a j = m.1 a j) (i : Nat) : p_numberOf u i = p_numberOf m i := sorry
/-- the formatted text changes, and nothing else -/
theorem DW_ft {X : xT} {m u : MV} {ad ad2 : Nat → Nat} {dv sg : Nat → Int32} {v : MV} {b : Bool} {rl bg : Nat → Int32} {f fp fa : Nat → Option Nat} {vf vf2 : Nat → Int32} {ba bn : Nat → Nat} {L : List (Nat × Nat)} {l l2 : List Int32} {S : List stR} {J : va_W} (h : INV X m ad dv sg v b rl bg f fp fa vf ba bn L l S J) (e : ∀ a j, a ≠ 0 → a ≠ 34 → a ≠ 35 → u.1 a j = m.1 a j) (e2 : u.2 = m.2) (had : ∀ k, k ≠ 146 → k ≠ 147 → ad2 k = ad k) (h1 : sbI vf2 (ad2 147) l2 ∧ l2.length ≤ 120 ∧ u.1 35 0 = nI l2.length ∧ ∀ i, i < l2.length → l2[i]? = some (u.1 34 i)) : INV X u ad2 dv sg v b rl bg f fp fa vf2 ba bn L l2 S J := sorry
def adF (ad : Nat → Nat) (va vc : Nat) : Nat → Nat := fun k => if k = 146 then va else if k = 147 then vc else ad k
theorem fsT_eq {X : xT} {P : va_W} {m : MV} {b k bs ln n : Nat} {sf : Nat → Int32} (hn : nmR X P m b n bs ln sf) {a1 a2 : Int32} (hb : nx a1 = b) (hk : nx a2 = k) (hok : ¬ p_isSerial m a1 a2 = 0) (hw : nx (m.1 15 b) ≤ 6) : (fsT m sf ln b k).length ≤ 120 ∧ p_formatSerial m a1 a2 = (nI (fsT m sf ln b k).length, ptL (up (up m 0 0 0) 35 0 0) (fsT m sf ln b k)) := sorry
theorem fbN_eq {m z : MV} {b : Nat} {l0 : List Int32} (hz : z = ptL (up (up m 0 0 0) 35 0 0) l0) : ∀ k, fbN z b k = ptL (up (up m 0 0 0) 35 0 0) (l0 ++ fbM m b k) := sorry
theorem fbT_eq {X : xT} {P : va_W} {m : MV} {b bs ln n : Nat} {sf : Nat → Int32} (hn : nmR X P m b n bs ln sf) {a1 : Int32} (hb : nx a1 = b) (hok : ¬ p_isBatch m a1 = 0) (hc : nx (m.1 13 b) ≤ 40) : (fbT m sf ln b).length ≤ 120 ∧ p_formatBatch m a1 = (nI (fbT m sf ln b).length, ptL (up (up m 0 0 0) 35 0 0) (fbT m sf ln b)) := sorry
