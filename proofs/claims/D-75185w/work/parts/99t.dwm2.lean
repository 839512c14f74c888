/-! a State's row changes -/
set_option maxRecDepth 100000
section ROWS
variable {J : va_W} {nb : Nat → Prop} {row row' : Nat → Int32} {a : Nat → Nat} {v v' : MV} {b : Bool} {rl bg : Nat → Int32} {f : Nat → Option Nat} {L : List (Nat × Nat)}
/-- the roll and the list stay -/
theorem SI_row2 (h : SI J nb row (a, v, b, rl, bg, f, L)) (hR : RS row' v') (hb : bnd row') (e : ∀ j, (j = 0 ∨ (3 ≤ j ∧ j ≤ 7) ∨ (26 ≤ j ∧ j < 125)) → row' j = row j) (h9 : b = false → row' 9 = 0) (hp : row' 9 = 1 → ¬ row' 11 + row' 12 = 0) (hl : liR row' L) : SI J nb row' (a, v', b, rl, bg, f, L) := sorry
theorem roll_c (z2 : rollOK row) (z3 : rlR row rl bg) (e : ∀ j, ((3 ≤ j ∧ j ≤ 7) ∨ (26 ≤ j ∧ j < 125)) → row' j = row j) : rollOK row' ∧ rlR row' rl bg := sorry
theorem liR_c (h : liR row L) (e : ∀ j, (j = 18 ∨ (605 ≤ j ∧ j < 845)) → row' j = row j) : liR row' L := sorry
theorem SI_row (h : SI J nb row (a, v, b, rl, bg, f, L)) (hR : RS row' v') (hb : bnd row') (e : ∀ j, (j = 0 ∨ (3 ≤ j ∧ j ≤ 7) ∨ j = 9 ∨ j = 11 ∨ j = 12 ∨ j = 18 ∨ (26 ≤ j ∧ j < 125) ∨ (605 ≤ j ∧ j < 845)) → row' j = row j) : SI J nb row' (a, v', b, rl, bg, f, L) := sorry
theorem i32_int {x y : Int32} : x ≤ y ↔ x.toInt ≤ y.toInt := sorry
/-- feeding keeps the bounds -/
theorem bnd_feed {m : MV} {q : Int32} (h : bnd (m.1 1)) (s : 0 ≤ m.1 5 0 ∧ m.1 5 0 ≤ 1000) (a0 : -1000 ≤ q) (a1 : q ≤ 60000) : bnd ((p_feedsTo m q).1 1) := sorry
theorem SI_feed {m : MV} {sg : Nat → Int32} {q : Int32} (h : SI J nb (m.1 1) (a, v, b, rl, bg, f, L)) (hs : sg 1 = m.1 5 0) (s : 0 ≤ m.1 5 0 ∧ m.1 5 0 ≤ 1000) (a0 : -1000 ≤ q) (a1 : q ≤ 60000) : SI J nb ((p_feedsTo m q).1 1) (a, p_SfeedTo sg v q, b, rl, bg, f, L) := sorry
end ROWS
theorem mi_c {u v : MV} (h1 : u.1 1 = v.1 1) (h2 : u.1 13 = v.1 13) (b : Nat) (s : Int32) : p_manyIn u b s = p_manyIn v b s := sorry
