/-! pure functions: the history, the web -/
set_option maxRecDepth 100000
theorem mvx {x y : MV} (h : ∀ a, x.1 a = y.1 a) (h2 : x.2 = y.2) : x = y := sorry
theorem upd_ne {f : Nat → Int32} {k j : Nat} {x : Int32} (h : j ≠ k) : upd f k x j = f j := sorry
/-- rows of 941, one further down -/
def hsh (k : Nat) (hist : Nat → Int32) : Nat → Int32 := fun i => if i + 941 < k then hist (i + 941) else hist i
/-- the first k of row r out of s -/
def hput (r k : Nat) (hist s : Nat → Int32) : Nat → Int32 := fun i => if 941 * r ≤ i ∧ i < 941 * r + k then s (i - 941 * r) else hist i
theorem hsh_0 (hist : Nat → Int32) : hsh 941 hist = hist := sorry
theorem hsh_s {k : Nat} (hist : Nat → Int32) (h : 941 ≤ k) : hsh (k + 1) hist = upd (hsh k hist) (k - 941) (hsh k hist k) := sorry
theorem hput_0 (r : Nat) (hist s : Nat → Int32) : hput r 0 hist s = hist := sorry
theorem hput_s (r k : Nat) (hist s : Nat → Int32) : hput r (k + 1) hist s = upd (hput r k hist s) (941 * r + k) (s k) := sorry
def p_record (v : MV) : MV := if v.1 4 0 = 8 then up (upR v 2 (hput 7 941 (hsh 7528 (v.1 2)) (v.1 1))) 4 0 8 else up (upR v 2 (hput (nx (v.1 4 0)) 941 (v.1 2) (v.1 1))) 4 0 (nI (nx (v.1 4 0) + 1))
theorem fr_record (v : MV) (a j : Nat) (hf : a ≠ 2 ∧ (a ≠ 4 ∨ j ≠ 0)) : (p_record v).1 a j = v.1 a j := sorry
/-- the first k places of s taken back out of row r -/
def hget (r k : Nat) (hist s : Nat → Int32) : Nat → Int32 := fun i => if i < k then hist (941 * r + i) else s i
theorem hget_0 (r : Nat) (hist s : Nat → Int32) : hget r 0 hist s = s := sorry
theorem hget_s (r k : Nat) (hist s : Nat → Int32) : hget r (k + 1) hist s = upd (hget r k hist s) k (hist (941 * r + k)) := sorry
/-- where label k begins, by the row -/
def bgF (s : Nat → Int32) : Nat → Int32
  | 0 => 0
  | k + 1 => bgF s k + (s 4 + s (26 + k)) + s 5
/-- begin behind n steps -/
def bgR (s b : Nat → Int32) (n : Nat) : Nat → Int32 := fun i => if i ≤ n then bgF s i else b i
theorem bgR_0 (s b : Nat → Int32) : upd b 0 0 = bgR s b 0 := sorry
theorem bgR_s (s b : Nat → Int32) (n : Nat) : upd (bgR s b n) (n + 1) (bgR s b n n + (s 4 + s (26 + n)) + s 5) = bgR s b (n + 1) := sorry
def p_laysWeb (v : MV) : MV := upR v 18 (bgR (v.1 1) (v.1 18) (nx (v.1 1 3)))
theorem fr_laysWeb (v : MV) (a j : Nat) (hf : a ≠ 18) : (p_laysWeb v).1 a j = v.1 a j := sorry
theorem nI_m1 {k : Nat} (h : 1 ≤ k) : nI k - 1 = nI (k - 1) := sorry
