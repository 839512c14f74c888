/-! undo over DW -/
set_option maxRecDepth 100000
theorem bgOK_lay {v : MV} : bgOK (p_laysWeb v) := sorry
/-- the five cells of a State -/
def st5 (X : xT) (d : Nat) (ad : Nat → Nat) (ro : Option Nat) (v : MV) : va_W := [(ad 102, .inr (3, [(va_rf ro), .int (v.1 1 0), .int (v.1 2 0), .int (v.1 3 0), .int (v.1 4 0), .int (v.1 5 0), .int (v.1 6 0), .int (v.1 7 0), .ref (ad 8), .int (v.1 9 0), .int (v.1 10 0), .int (v.1 11 0), .int (v.1 12 0), .int (v.1 13 0), .int (v.1 14 0), .ref (ad 15), .ref (ad 16), .ref (ad 17), .ref (ad 18), .ref d])), (ad 8, .inl (xY X 0, 96, .inl (v.1 8))), (ad 15, .inl (xY X 0, 240, .inl (v.1 15))), (ad 16, .inl (xY X 0, 240, .inl (v.1 16))), (ad 17, .inl (xY X 0, 6, .inl (v.1 17)))]
def liW (X : xT) (ad : Nat → Nat) (f : Nat → Option Nat) : va_W := [(ad 18, .inr (14, [.ref (ad 130), .int (nI (ad 132)), .int (nI (ad 133))])), (ad 130, .inl (xY X 4, ad 131, .inr (.inr (.inr (.inr f)))))]
def drC (ad : Nat → Nat) (dv : Nat → Int32) : Nat × va_E := (ad 100, .inr (1, [.ref (ad 110), .int (dv 1), .int (dv 2), .int (dv 3), .ref (ad 101), .ref (ad 113), .ref (ad 111), .ref (ad 112)]))
def seT (ad : Nat → Nat) (sg : Nat → Int32) : va_W := [(ad 101, .inr (2, [.ref (ad 114), .int (sg 1), .int (sg 2), .int (sg 3), .int (sg 4), .int (sg 5)]))]
def paC (X : xT) (ad : Nat → Nat) (fp : Nat → Option Nat) : va_W := [(ad 111, .inr (14, [.ref (ad 140), .int (nI (ad 142)), .int (nI (ad 143))])), (ad 140, .inl (xY X 4, ad 141, .inr (.inr (.inr (.inr fp)))))]
def c5 (X : xT) (m : MV) (ad : Nat → Nat) (fa : Nat → Option Nat) (mc_ ml : Int32) (vf : Nat → Int32) (ct : Nat) : va_W := [(ad 114, .inr (15, [.int mc_, .ref (ad 144), .int (nI (nx (m.1 10 0)))])), (ad 144, .inl (xY X 4, ad 145, .inr (.inr (.inr (.inr fa))))), (ad 110, .inl (xY X 3, 600, .inl (m.1 19))), (ad 112, .inr (16, [.ref (ad 146), .int (0 : Int32), .int ml, .int (nI ct)])), (ad 146, .inl (xY X 3, ad 147, .inl vf))]
theorem dW_b (X : xT) (m : MV) (ad : Nat → Nat) (dv sg : Nat → Int32) (v : MV) (b : Bool) (rl bg : Nat → Int32) (f fp fa : Nat → Option Nat) (mc_ ml : Int32) (vf : Nat → Int32) (ct : Nat) (S : List stR) (J : va_W) : dW X m ad dv sg v b rl bg f fp fa mc_ ml vf ct S J = [drC ad dv] ++ (seT ad sg ++ (st5 X (ad 100) ad (roO ad b) v ++ (liW X ad f ++ (paC X ad fp ++ (c5 X m ad fa mc_ ml vf ct ++ (roW X ad b rl bg ++ (paW X (ad 100) S ++ J))))))) := sorry
theorem stW_b (X : xT) (d : Nat) (a : Nat → Nat) (v : MV) (b : Bool) (rl bg : Nat → Int32) (f : Nat → Option Nat) (L : List (Nat × Nat)) : stW X d (a, v, b, rl, bg, f, L) = st5 X d a (roO a b) v ++ (roW X a b rl bg ++ liW X a f) := sorry
/-- the addresses when a kept State comes back -/
def adU (ad a9 : Nat → Nat) (tl : Nat) : Nat → Nat := fun k => if k = 113 then a9 102 else if k = 143 then tl else adS ad a9 k
theorem D_undo {X : xT} {d : Nat} {m : MV} {w : va_W} (h : DW X d m w) : MetX X yX1_undo (.code yX1_undo cX1_undo 1 (some .int)) (rmC 6 0 0) 0 0 [.ref d] w (chQ X d (p_undo m)) (fun _ _ _ => False) := sorry
