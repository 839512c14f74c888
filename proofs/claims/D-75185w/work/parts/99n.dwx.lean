/-! truncate, append, undo, over DW -/
set_option maxRecDepth 100000
theorem pmF {α : Type} (LL : List (List α)) (ix : List Nat) (h : (List.range LL.length).isPerm ix = true) : LL.flatten.Perm ((ix.filterMap (fun i => LL[i]?)).flatten) := sorry
def chQ (X : xT) (d : Nat) (p : Int32 × MV) : Option Value → va_W → Prop := fun r w => r = some (.int p.1) ∧ DW X d p.2 w
/-- the text read in changes -/
theorem INV_tx {X : xT} {m u : MV} {ad : Nat → Nat} {dv dv2 sg : Nat → Int32} {v : MV} {b : Bool} {rl bg : Nat → Int32} {f fp fa : Nat → Option Nat} {vf : Nat → Int32} {ba bn : Nat → Nat} {L : List (Nat × Nat)} {l : List Int32} {S : List stR} {J : va_W} (h : INV X m ad dv sg v b rl bg f fp fa vf ba bn L l S J) (e : ∀ a j, a ≠ 0 → a ≠ 19 → a ≠ 20 → u.1 a j = m.1 a j) (e2 : u.2 = m.2) (h1 : dv2 1 = u.1 20 0) (h2 : inN (u.1 20 0) 0 600) (h3 : dv2 2 = dv 2) (h4 : dv2 3 = dv 3) (h5 : byF (u.1 19)) : INV X u ad dv2 sg v b rl bg f fp fa vf ba bn L l S J := sorry
theorem D_truncate {X : xT} {d : Nat} {m : MV} {w : va_W} (a1 : Int32) (h : DW X d m w) : MetX X yX1_truncate (.code yX1_truncate cX1_truncate 2 (some .boolean)) (rmC 6 0 0) 0 0 [.ref d, .int a1] w (chQ X d (p_truncate m a1)) (fun _ _ _ => False) := sorry
theorem byt_nar (x : Int32) : byt (vp_nar .byte x) := sorry
theorem D_append {X : xT} {d : Nat} {m : MV} {w : va_W} (a1 a2 a3 a4 a5 : Int32) (h : DW X d m w) : MetX X yX1_append (.code yX1_append cX1_append 8 (some .int)) (rmC 2 1 5) 1 5 [.ref d, .int a1, .int a2, .int a3, .int a4, .int a5] w (chQ X d (p_append m a1 a2 a3 a4 a5)) (fun _ _ _ => False) := sorry
