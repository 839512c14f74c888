/-! for the walk of a run -/
set_option maxRecDepth 100000
theorem rn_0 {m v : MV} {sg rl bg : Nat → Int32} {L : List (Nat × Nat)} (hC : CX m sg rl bg) (hR : RS (m.1 1) v) (hb : bnd (m.1 1)) (hl : liR (m.1 1) L) (h9 : m.1 1 9 = 1) : rnI m (up (up m 1 15 0) 1 16 0) (up (up v 4 0 0) 5 0 0) sg rl bg L := sorry
def nxI (m u : MV) (P : va_W) (L : List (Nat × Nat)) (sq : Option Nat) : Prop := (sq = none ∧ p_next u = -1) ∨ ∃ q z : Nat, sq = some q ∧ z < 240 ∧ z / 40 < nx (m.1 10 0) ∧ p_next u = nI z ∧ seC q z ∈ P ∧ (L = [] ∨ ∃ L0, L = (q, z) :: L0)
theorem gm_instN {X : xT} {g : gT} {cc : ByteArray} {nL n k : Nat} {own : String} {ret : Option FieldType} {rm : Room} {pc idx : Nat} {lv : List (Nat × Value)} {st : List Value} {ws : va_W} (C : GC X g cc nL own ret rm) (d : decode cc pc = .ok (.instanceof idx, 3)) (kk : G X g nL n k ws (pc + 3) lv (.int 0 :: st)) : G X g nL n k ws pc lv (.null :: st) := sorry
theorem gm_apart {X : xT} {g : gT} {nL n k : Nat} {pc : Nat} {lv : List (Nat × Value)} {st : List Value} {ws : va_W} {qs : List Nat} {i j a b : Nat} {x y : va_E} (hi : ws[i]? = some (a, x)) (hj : ws[j]? = some (b, y)) (hij : i ≠ j) (kk : a ≠ b → GM X g qs nL n k ws pc lv st) : GM X g qs nL n k ws pc lv st := sorry
theorem pm_exR {α : Type} (B R l P : List α) {i : Nat} {c : α} (h : l[i]? = some c) : (B ++ (R ++ (l ++ P))).Perm ((B ++ [c]) ++ (R ++ (l.eraseIdx i ++ P))) := sorry
theorem paL_mem {d ag : Int32} {s z : Nat} {L : List (Nat × Nat)} {x : Nat × Nat} (h : x ∈ paL d ag s z L) : x = (s, z) ∨ x ∈ L := sorry
theorem sp_9 {m u v : MV} {sg rl bg : Nat → Int32} {L : List (Nat × Nat)} {z : Nat} (hm : runH m) (h : rnI m u v sg rl bg L) (hz : z < 240) : (p_Sprint sg rl bg v z).2.1 9 0 = 1 := sorry
