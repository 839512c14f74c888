/-! the formatted text: characters are put -/
set_option maxRecDepth 100000
theorem g_topL {X : xT} {g : gT} {nL n k : Nat} {ws : va_W} {pc : Nat} {lv : List (Nat × Value)} {st : List Value} {x y : Int64} (h : x = y) (kk : G X g nL n k ws pc lv (.long y :: st)) : G X g nL n k ws pc lv (.long x :: st) := sorry
def ptL (v : MV) (l : List Int32) : MV := l.foldl p_put v
theorem ptL_app (v : MV) (a b : List Int32) : ptL v (a ++ b) = ptL (ptL v a) b := sorry
theorem ptL_1 (v : MV) (c : Int32) : ptL v [c] = p_put v c := sorry
theorem ptL_s (v : MV) (l : List Int32) (c : Int32) : ptL v (l ++ [c]) = p_put (ptL v l) c := sorry
theorem fr_ptL (l : List Int32) : ∀ (v : MV) (a j : Nat), a ≠ 34 ∧ (a ≠ 35 ∨ j ≠ 0) → (ptL v l).1 a j = v.1 a j := sorry
theorem ptL_2 (l : List Int32) : ∀ v : MV, (ptL v l).2 = v.2 := sorry
/-- so many characters stand -/
def fO (u : MV) (c : Nat) : Prop := u.1 35 0 = nI c
theorem fO_e {u : MV} {c : Nat} (h : fO u c) (hc : c ≤ 1000) : u.1 35 0 = nI (nx (u.1 35 0)) := sorry
theorem fO_n {u : MV} {c : Nat} (h : fO u c) (hc : c ≤ 1000) : nx (u.1 35 0) = c := sorry
theorem fO_put {u : MV} {c : Nat} {x : Int32} (h : fO u c) (hc : c ≤ 1000) : fO (p_put u x) (c + 1) := sorry
theorem fO_ptL (l : List Int32) : ∀ {u : MV} {c : Nat}, fO u c → c + l.length ≤ 1000 → fO (ptL u l) (c + l.length) := sorry
theorem fO_fr {u v : MV} {c : Nat} (e : u.1 35 0 = v.1 35 0) (h : fO v c) : fO u c := sorry
theorem cmp_0 {y : Nat} (h : y < 2 ^ 62) : lg_cmp (lN y) 0 ≤ 0 ↔ y = 0 := sorry
theorem nm_st {n y : Nat} (hn : n ≤ 6) (hy : y < 32 ^ (6 - n)) (h0 : ¬ y = 0) : n + 1 ≤ 6 ∧ y / 32 < 32 ^ (6 - (n + 1)) := sorry
theorem nm_30 {m : Nat} (h : m < 2 ^ 30) : m < 32 ^ (6 - 0) := sorry
theorem nm_y {n y : Nat} (hy : y < 32 ^ (6 - n)) : y < 2 ^ 30 := sorry
theorem pxd {x : Int32} {r : Nat} (hx : x + 1 = nI r) (h : ¬ x < 0) : ∃ k, r = k + 1 ∧ x = nI k := sorry
theorem pxe {x : Int32} {r : Nat} (hr : r ≤ 1000) (hx : x + 1 = nI r) (h : x < 0) : r = 0 := sorry
/-- the letters of a packed name, and a space -/
def nmA (m : Nat) (r : Nat) : List Int32 := ((List.range (nmL 7 m - r)).map (fun i => nmC m (nmL 7 m - 1 - i)))
def nmT (m : Nat) : List Int32 := nmA m 0 ++ [32]
theorem nmA_s {m r : Nat} (h : r + 1 ≤ nmL 7 m) : nmA m r = nmA m (r + 1) ++ [nmC m r] := sorry
theorem nmA_n (m : Nat) : nmA m (nmL 7 m) = [] := sorry
theorem nmA_len (m r : Nat) : (nmA m r).length = nmL 7 m - r := sorry
theorem nmL6 {m : Nat} (h : m < 2 ^ 30) : nmL 7 m ≤ 6 := sorry
theorem nmT_len {m : Nat} (h : m < 2 ^ 30) : (nmT m).length ≤ 7 := sorry
def p_putName (v : MV) (b : Nat) : MV := ptL v (nmT (nl (v.2 11 b)))
theorem fr_putName (v : MV) (b a j : Nat) (hf : a ≠ 34 ∧ (a ≠ 35 ∨ j ≠ 0)) : (p_putName v b).1 a j = v.1 a j := sorry
/-- the powers of ten downward, then 0 -/
def pwd : Nat → Int32
  | 0 => 0
  | r + 1 => pw10 r
theorem pwd_d : ∀ r, r < 7 → pwd (r + 1) / 10 = pwd r := sorry
theorem pwd_p : ∀ r, r < 7 → ¬ pwd (r + 1) ≤ 0 := sorry
theorem pwd_n {r : Nat} (h : r < 7) : ¬ pwd (r + 1) = 0 := sorry
theorem pwd_0 {r : Nat} (hr : r < 7) (h : pwd r ≤ 0) : r = 0 := sorry
/-- a digit, and the digits from place w down to place r -/
def fsD (x y : Int32) : Int32 := 48 + (x / y - x / y / 10 * 10)
def fsA (x : Int32) (w r : Nat) : List Int32 := (List.range (w - r)).map (fun i => fsD x (pwd (w - i)))
theorem fsA_n (x : Int32) (w : Nat) : fsA x w w = [] := sorry
theorem fsA_len (x : Int32) (w r : Nat) : (fsA x w r).length = w - r := sorry
theorem fsA_s {x : Int32} {w r : Nat} (h : r + 1 ≤ w) : fsA x w r = fsA x w (r + 1) ++ [fsD x (pwd (r + 1))] := sorry
