/-! a line of the text -/
set_option maxRecDepth 100000
theorem tOK_packed {v : MV} (h : tOK v) : tOK (p_packed v).2 := sorry
/-- is one of the first b names this one -/
def blN (u0 : MV) (its : Int64) : Nat → MV
  | 0 => u0
  | b + 1 => if p_failed (blN u0 its b) = 0 ∧ lg_cmp ((blN u0 its b).2 27 b) its = 0 then p_fail (blN u0 its b) 3 ((blN u0 its b).1 22 0) else blN u0 its b
theorem tOK_id {v : MV} (h : tOK v) : tOK (up v 22 0 (v.1 22 0)) := sorry
theorem fr_blN (u0 : MV) (its : Int64) : ∀ (b a j : Nat), ((a ≠ 23 ∨ j ≠ 0) ∧ (a ≠ 24 ∨ j ≠ 0)) → (blN u0 its b).1 a j = u0.1 a j := sorry
theorem lt_e {α β : Type} {A u : α} {f : α → β} (e : u = A) : lt_ A f = f u := sorry
theorem up_nt {v : MV} {f i a j : Nat} {x c : Int32} (h : a ≠ f ∨ j ≠ i) (e : v.1 a j = c) : (up v f i x).1 a j = c := sorry
theorem upL_nt {v : MV} {f i a j : Nat} {x : Int64} {c : Int32} (e : v.1 a j = c) : (upL v f i x).1 a j = c := sorry
theorem ite_m {p : Prop} [Decidable p] {A B : MV} {a j : Nat} {c : Int32} (h1 : A.1 a j = c) (h2 : B.1 a j = c) : (if p then A else B).1 a j = c := sorry
theorem ite_mp {β : Type} {p : Prop} [Decidable p] {A B : β × MV} {a j : Nat} {c : Int32} (h1 : A.2.1 a j = c) (h2 : B.2.1 a j = c) : (if p then A else B).2.1 a j = c := sorry
