/-! what changes do to a State and its row: the list, the roll, batches given up -/
set_option maxRecDepth 100000
theorem up_m2 (v : MV) (f i : Nat) (x : Int32) : (up v f i x).2 = v.2 := sorry
theorem fails_m2 (v : MV) (c : Int32) : (p_fails v c).2.2 = v.2 := sorry
theorem looks_m2 (z : MV) (a b : Int32) : (p_looksForGaps z a b).2.2 = z.2 := sorry
theorem learns_m2 (m : MV) : (p_learns m).2.2 = m.2 := sorry
/-- the list changes, and nothing else -/
theorem SI_list {J K : va_W} {nb : Nat → Prop} {row row' : Nat → Int32} {a a2 : Nat → Nat} {v : MV} {b : Bool} {rl bg : Nat → Int32} {f f2 : Nat → Option Nat} {L L2 : List (Nat × Nat)} (h : SI J nb row (a, v, b, rl, bg, f, L)) (e : ∀ j, ¬ (j = 18 ∨ (605 ≤ j ∧ j < 845)) → row' j = row j) (hd : dqI (a2 131) f2 (a2 132) (a2 133) (L2.map Prod.fst) ∧ a2 131 ≤ 400) (hl : liP K L2) (hr : liR row' L2) (ht : ∀ x ∈ L2, nb x.2) (hn : (L2.map Prod.snd).Nodup) : SI K nb row' (a2, v, b, rl, bg, f2, L2) := sorry
theorem bgF_str (r : Nat → Int32) (k : Nat) (x : Int32) : ∀ i, bgF (upd r (26 + k) x) i = if k < i then bgF r i + (x - r (26 + k)) else bgF r i := sorry
/-- a label is stretched -/
theorem SI_str {J : va_W} {nb : Nat → Prop} {row : Nat → Int32} {a : Nat → Nat} {v : MV} {rl bg : Nat → Int32} {f : Nat → Option Nat} {L : List (Nat × Nat)} {k : Nat} {x : Int32} (h : SI J nb row (a, v, true, rl, bg, f, L)) (hk : k < nx (row 3)) (hx : -20 ≤ x ∧ x ≤ 20) (h1 : 1 ≤ row 4 + x) : SI J nb (upd row (26 + k) x) (a, v, true, rl, rsF bg ((((rl 1) + x) + (rl 2)) - ((bg (k + 1)) - (bg k))) (k + 1) (nx (rl 0) + 1), f, L) := sorry
/-! a roll is mounted -/
def moU (m : MV) (a1 a2 a3 a4 a5 : Int32) : MV := up (up (up (up (up (up (up (up (up (up (p_record (up m 0 0 0)) 1 0 1) 1 1 0) 1 2 (m.1 5 0 - 1)) 1 3 a1) 1 4 a2) 1 5 a3) 1 6 a4) 1 7 a5) 1 9 0) 1 17 0
def moN (m : MV) (a1 a2 a3 a4 a5 : Int32) : MV := p_laysWeb (upR (moU m a1 a2 a3 a4 a5) 1 (zpR ((moU m a1 a2 a3 a4 a5).1 1) 99))
theorem upR18 (Z : MV) (R : Nat → Int32) : (upR Z 18 R).1 1 = Z.1 1 := sorry
theorem moN_r {m : MV} {a1 a2 a3 a4 a5 : Int32} : (moN m a1 a2 a3 a4 a5).1 1 = zpR (upd (upd (upd (upd (upd (upd (upd (upd (upd (upd (m.1 1) 0 1) 1 0) 2 (m.1 5 0 - 1)) 3 a1) 4 a2) 5 a3) 6 a4) 7 a5) 9 0) 17 0) 99 := sorry
theorem moN_ne {m : MV} {a1 a2 a3 a4 a5 : Int32} {a j : Nat} (h1 : a ≠ 1) (h18 : a ≠ 18) : (moN m a1 a2 a3 a4 a5).1 a j = (p_record (up m 0 0 0)).1 a j := sorry
theorem moN_m2 {m : MV} {a1 a2 a3 a4 a5 : Int32} : (moN m a1 a2 a3 a4 a5).2 = (p_record (up m 0 0 0)).2 := sorry
theorem bgF_mul {r : Nat → Int32} : ∀ i, (∀ k, k < i → r (26 + k) = 0) → bgF r i = nI i * (r 4 + r 5) := sorry
theorem SI_mo {J K : va_W} {nb : Nat → Prop} {m : MV} {a a2_ : Nat → Nat} {v : MV} {b : Bool} {rl bg sg : Nat → Int32} {f : Nat → Option Nat} {L : List (Nat × Nat)} {a1 a2 a3 a4 a5 : Int32} (h : SI J nb (m.1 1) (a, v, b, rl, bg, f, L)) (hs : sg 1 = m.1 5 0) (h5 : 1 ≤ m.1 5 0 ∧ m.1 5 0 ≤ 1000) (q1 : ¬ p_inRange a1 1 99 = 0) (q2 : ¬ p_inRange a2 20 300 = 0) (q3 : ¬ p_inRange a3 2 40 = 0) (q4 : ¬ p_inRange a4 0 255 = 0) (q5 : ¬ p_inRange a5 0 255 = 0) (had : ∀ k, k = 131 ∨ k = 132 ∨ k = 133 → a2_ k = a k) (hJ : ∀ c ∈ J, c ∈ K) :
    SI K nb ((moN m a1 a2 a3 a4 a5).1 1) (a2_, up (up (up (up v 2 0 (0 : Int32)) 3 0 ((sg 1) - (1 : Int32))) 6 0 (0 : Int32)) 9 0 (0 : Int32), true, rlM (nI (nx a1)) a2 a3 a4 a5, rbF (a2 + a3) (nx a1 + 1), f, L) := sorry
/-! a batch is given up -/
def abR (r : Nat → Int32) (b : Nat) : Nat → Nat → Int32
  | 0 => r
  | k + 1 => if abR r b k (125 + (40 * b + k)) = 0 then upd (abR r b k) (125 + (40 * b + k)) 2 else abR r b k
theorem abR_ne (r : Nat → Int32) (b : Nat) : ∀ k j, ¬ (125 + 40 * b ≤ j ∧ j < 125 + (40 * b + k)) → abR r b k j = r j := sorry
theorem abV_RS {r : Nat → Int32} {v : MV} {b : Nat} (hR : RS r v) (hb : b < 6) : ∀ k, k ≤ 40 → RS (abR r b k) (abV v b k) := sorry
def abP (b k : Nat) (x : Nat × Nat) : Bool := decide (¬ (40 * b ≤ x.2 ∧ x.2 < 40 * b + k))
theorem abP_s (b k : Nat) (L : List (Nat × Nat)) : L.filter (abP b (k + 1)) = (L.filter (abP b k)).filter (fun x => decide (¬ x.2 = 40 * b + k)) := sorry
theorem ab_inv {u : MV} {b : Nat} {L : List (Nat × Nat)} (hb : b < 6) (hl : liR (u.1 1) L) (hz : ∀ x ∈ L, x.2 < 240) (hd : (L.map Prod.snd).Nodup) : ∀ k, k ≤ 40 → (abN b (0, u) k).1 = cntS (u.1 1) b 0 k ∧ (∀ a j, a ≠ 1 → (abN b (0, u) k).2.1 a j = u.1 a j) ∧ (abN b (0, u) k).2.2 = u.2 ∧ (∀ j, ¬ (j = 18 ∨ (605 ≤ j ∧ j < 845)) → (abN b (0, u) k).2.1 1 j = abR (u.1 1) b k j) ∧ liR ((abN b (0, u) k).2.1 1) (L.filter (abP b k)) := sorry
/-- no cell of a State is a serial -/
theorem st_ns {X : xT} {d x z : Nat} {r : stR} : ¬ seC x z ∈ stW X d r := sorry
theorem pa_ns {X : xT} {d x z : Nat} {S : List stR} : ¬ seC x z ∈ paW X d S := sorry
theorem abN_f (b : Nat) (t : Int32 × MV) : ∀ (k a j : Nat), a ≠ 1 → (abN b t k).2.1 a j = t.2.1 a j := sorry
/-- what is taken out of the list leaves the other numbers -/
theorem uq_ne {u : MV} {i j : Nat} (h : nx (u.1 1 18) ≤ 240) (hj : ¬ (j = 18 ∨ (605 ≤ j ∧ j < 845))) : (p_takesFromList u i).1 1 j = u.1 1 j := sorry
theorem kp_self {z : Nat} {y : Nat × Nat} (hy : y.2 < 240) (hz : z < 240) : kpL (100 * nI (z / 40) + nI (z % 40)) (100 * nI (z / 40) + nI (z % 40)) y = true ↔ ¬ y.2 = z := sorry
theorem kp_ab {a1 : Int32} {b n : Nat} {x : Nat × Nat} (ha : a1 = nI b) (hb : b < 6) (hx : x.2 < 240) (hn : x.2 / 40 = b → x.2 % 40 < n) (hn40 : n ≤ 40) : kpL ((100 : Int32) * a1) (((100 : Int32) * a1) + (40 : Int32)) x = abP b n x := sorry
theorem end_q {m : MV} (h : rollOK (m.1 1)) (hb : bgOK m) {q : Int32} (h1 : -500 ≤ q) (h2 : q ≤ p_end m + 500) : -1000 ≤ q ∧ q ≤ 60000 := sorry
theorem hasRoom_le {s : State} {pl : Platform} {r r' : Room} (hf : r.frames ≤ r'.frames) (hl : r.locals ≤ r'.locals) (hc : r.cells ≤ r'.cells) (hs : r.slots ≤ r'.slots) (h : s.hasRoom pl r' = true) : s.hasRoom pl r = true := sorry
/-- a contract with more room -/
theorem metX_wide {X : xT} {y : MethodName} {cw : Cond} {rm rm' : Room} {mc ms mc' ms' : Nat} {av : List Value} {ws : va_W} {Qp : Option Value → va_W → Prop} {Qt : String → Nat → va_W → Prop} (hM : MetX X y cw rm mc ms av ws Qp Qt) (hf : rm.frames ≤ rm'.frames) (hl : rm.locals ≤ rm'.locals) (hc : rm.cells ≤ rm'.cells) (hs : rm.slots ≤ rm'.slots) (h1 : mc ≤ mc') (h2 : ms ≤ ms') : MetX X y cw rm' mc' ms' av ws Qp Qt := sorry
theorem rd_wide {X : xT} {y : MethodName} {cw : Cond} {j c s j' c' s' : Nat} {av : List Value} {ws : va_W} {Qp : Option Value → va_W → Prop} {Qt : String → Nat → va_W → Prop} (hM : MetX X y cw (rmC j c s) c s av ws Qp Qt) (h : (Nat.ble j j' && Nat.ble c c' && Nat.ble s s') = true) : MetX X y cw (rmC j' c' s') c' s' av ws Qp Qt := sorry
theorem pmM {α : Type} {B RN cells oth c9 N R D K J PW KN : List α} (hc : (cells ++ oth).Perm c9) (e1 : PW = D ++ K) (e2 : KN = K ++ N) : ((B ++ ((RN ++ cells) ++ (N ++ (R ++ (PW ++ J))))) ++ oth).Perm (B ++ (c9 ++ (RN ++ (KN ++ (R ++ (D ++ J)))))) := sorry
theorem pmRn {α : Type} {B cells oth c9 N Pn R D K J PW KN : List α} (hc : (cells ++ oth).Perm c9) (e1 : PW = D ++ K) (e2 : KN = K ++ N) : ((B ++ (R ++ (cells ++ (Pn ++ (N ++ (PW ++ J)))))) ++ oth).Perm (B ++ (c9 ++ (R ++ (KN ++ (Pn ++ (D ++ J)))))) := sorry
section MORE
variable {X : xT} {m : MV} {ad : Nat → Nat} {dv sg : Nat → Int32} {v : MV} {b : Bool} {rl bg : Nat → Int32} {f fp fa : Nat → Option Nat} {vf : Nat → Int32} {ba bn : Nat → Nat} {L : List (Nat × Nat)} {l : List Int32} {S : List stR} {J : va_W}
theorem INV.th (h : INV X m ad dv sg v b rl bg f fp fa vf ba bn L l S J) : ∀ x ∈ L, thR m x.2 := sorry
theorem INV.nd (h : INV X m ad dv sg v b rl bg f fp fa vf ba bn L l S J) : (L.map Prod.snd).Nodup := sorry
theorem INV.n3 (h : INV X m ad dv sg v b rl bg f fp fa vf ba bn L l S J) : inN (m.1 1 3) 0 99 := sorry
end MORE
theorem mt_1 {m : MV} (h : m.1 1 0 = 1) : ¬ p_isMounted m = 0 := sorry
theorem mt_0 {m : MV} (h : ¬ m.1 1 0 = 1) : p_isMounted m = 0 := sorry
theorem rd_0 {m : MV} (h : m.1 1 9 = 0) : p_isReadyNow m = 0 := sorry
theorem rd_1 {m : MV} (h : ¬ p_isReadyNow m = 0) : m.1 1 9 = 1 := sorry
theorem c_int {x y : Int32} (h : x = y) : some (Value.int x) = some (Value.int y) := sorry
/-- the driver beside the model after a trial run: the row comes back -/
theorem DW_wr {X : xT} {d : Nat} {m : MV} {w : va_W} (h : DW X d m w) (n : Nat) : DW X d (upR (p_runs (upR (up m 0 0 0) 3 (acR (m.1 1) (m.1 3) 941)) n).2 1 (acR ((p_runs (upR (up m 0 0 0) 3 (acR (m.1 1) (m.1 3) 941)) n).2.1 3) ((p_runs (upR (up m 0 0 0) 3 (acR (m.1 1) (m.1 3) 941)) n).2.1 1) 941)) w := sorry
