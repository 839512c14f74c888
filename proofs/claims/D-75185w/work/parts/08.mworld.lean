/-! THE MODEL: its numbers v (v.1 f i: int field f, i = 0, or array field f at i; v.2: arrays of long), its cells, a row a field -/
set_option maxRecDepth 100000
abbrev MV : Type := (Nat → Nat → Int32) × (Nat → Nat → Int64)
def up (v : MV) (f i : Nat) (x : Int32) : MV := (fun a => if a = f then upd (v.1 f) i x else v.1 a, v.2)
def upL (v : MV) (f i : Nat) (x : Int64) : MV := (v.1, fun a => if a = f then vp_updL (v.2 f) i x else v.2 a)
theorem up_s {v : MV} {f i : Nat} {x : Int32} : (up v f i x).1 f i = x := sorry
theorem up_f {v : MV} {f i a j : Nat} {x : Int32} (h : a ≠ f) : (up v f i x).1 a j = v.1 a j := sorry
theorem up_i {v : MV} {f i j : Nat} {x : Int32} (h : j ≠ i) : (up v f i x).1 f j = v.1 f j := sorry
theorem up_row {v : MV} {f i a : Nat} {x : Int32} (h : a ≠ f) : (up v f i x).1 a = v.1 a := sorry
theorem up_self {v : MV} {f i : Nat} {x : Int32} : (up v f i x).1 f = upd (v.1 f) i x := sorry
theorem up_ne {v : MV} {f i a j : Nat} {x : Int32} (h : a ≠ f ∨ j ≠ i) : (up v f i x).1 a j = v.1 a j := sorry
def upR (v : MV) (f : Nat) (r : Nat → Int32) : MV := (fun a => if a = f then r else v.1 a, v.2)
theorem upR_up {v : MV} {f i : Nat} {r : Nat → Int32} {x : Int32} : up (upR v f r) f i x = upR v f (upd r i x) := sorry
theorem upR_id {v : MV} {f : Nat} : upR v f (v.1 f) = v := sorry
theorem upR_self {v : MV} {f : Nat} {r : Nat → Int32} : (upR v f r).1 f = r := sorry
theorem upR_row {v : MV} {f a : Nat} {r : Nat → Int32} (h : a ≠ f) : (upR v f r).1 a = v.1 a := sorry
theorem upR_ne {v : MV} {f a j : Nat} {r : Nat → Int32} (h : a ≠ f) : (upR v f r).1 a j = v.1 a j := sorry
theorem upR_e {v : MV} {f a j : Nat} {r : Nat → Int32} (h : a = f → r j = v.1 a j) : (upR v f r).1 a j = v.1 a j := sorry
def nx (x : Int32) : Nat := x.toNatClampNeg
/-- a name for a value -/
def lt_ {α β : Type} (a : α) (f : α → β) : β := f a
theorem lt_m {A : MV} {f : MV → MV} {a j : Nat} {c : Int32} (hA : A.1 a j = c) (h : ∀ u : MV, u.1 a j = c → (f u).1 a j = c) : (lt_ A f).1 a j = c := sorry
theorem lt_mp {β : Type} {A : MV} {f : MV → β × MV} {a j : Nat} {c : Int32} (hA : A.1 a j = c) (h : ∀ u : MV, u.1 a j = c → (f u).2.1 a j = c) : (lt_ A f).2.1 a j = c := sorry
theorem lt_i {A : Int32} {f : Int32 → MV} {a j : Nat} {c : Int32} (h : ∀ x : Int32, (f x).1 a j = c) : (lt_ A f).1 a j = c := sorry
theorem lt_ip {β : Type} {A : Int32} {f : Int32 → β × MV} {a j : Nat} {c : Int32} (h : ∀ x : Int32, (f x).2.1 a j = c) : (lt_ A f).2.1 a j = c := sorry
theorem upL_1 {v : MV} {f i : Nat} {x : Int64} : (upL v f i x).1 = v.1 := sorry
theorem up_L {v : MV} {f i : Nat} {x : Int32} : (up v f i x).2 = v.2 := sorry
def mF (ad : Nat → Nat) (v : MV) : List Value := [.int (v.1 0 0), .ref (ad 1), .ref (ad 2), .ref (ad 3), .int (v.1 4 0), .int (v.1 5 0), .int (v.1 6 0), .int (v.1 7 0), .int (v.1 8 0), .int (v.1 9 0), .int (v.1 10 0), .ref (ad 11), .ref (ad 12), .ref (ad 13), .ref (ad 14), .ref (ad 15), .ref (ad 16), .ref (ad 17), .ref (ad 18), .ref (ad 19), .int (v.1 20 0), .int (v.1 21 0), .int (v.1 22 0), .int (v.1 23 0), .int (v.1 24 0), .ref (ad 25), .int (v.1 26 0), .ref (ad 27), .ref (ad 28), .ref (ad 29), .ref (ad 30), .ref (ad 31), .ref (ad 32), .ref (ad 33), .ref (ad 34), .int (v.1 35 0)]
def mW (X : xT) (h : Nat) (ad : Nat → Nat) (v : MV) : va_W := (h, .inr (0, mF ad v)) :: [(ad 1, .inl (xY X 0, 941, .inl (v.1 1))), (ad 2, .inl (xY X 0, 7528, .inl (v.1 2))), (ad 3, .inl (xY X 0, 941, .inl (v.1 3))), (ad 11, .inl (xY X 1, 6, .inr (.inl (v.2 11)))), (ad 12, .inl (xY X 0, 6, .inl (v.1 12))), (ad 13, .inl (xY X 0, 6, .inl (v.1 13))), (ad 14, .inl (xY X 0, 6, .inl (v.1 14))), (ad 15, .inl (xY X 0, 6, .inl (v.1 15))), (ad 16, .inl (xY X 2, 6, .inl (v.1 16))), (ad 17, .inl (xY X 2, 6, .inl (v.1 17))), (ad 18, .inl (xY X 0, 100, .inl (v.1 18))), (ad 19, .inl (xY X 3, 600, .inl (v.1 19))), (ad 25, .inl (xY X 0, 5, .inl (v.1 25))), (ad 27, .inl (xY X 1, 6, .inr (.inl (v.2 27)))), (ad 28, .inl (xY X 0, 6, .inl (v.1 28))), (ad 29, .inl (xY X 0, 6, .inl (v.1 29))), (ad 30, .inl (xY X 0, 6, .inl (v.1 30))), (ad 31, .inl (xY X 0, 6, .inl (v.1 31))), (ad 32, .inl (xY X 2, 6, .inl (v.1 32))), (ad 33, .inl (xY X 2, 6, .inl (v.1 33))), (ad 34, .inl (xY X 0, 120, .inl (v.1 34)))]
section MROWS
variable {X : xT} {g : gT} {cc : ByteArray} {nL n k : Nat} {ret : Option FieldType} {rm : Room} {pc : Nat} {lv : List (Nat × Value)} {st : List Value} {h : Nat} {ad : Nat → Nat} {v : MV}
theorem m_g0 (C : GC X g cc nL RX4 ret rm) (d : decode cc pc = .ok (.getfield 92, 3)) (kk : G X g nL n k (mW X h ad v) (pc + 3) lv (.int (v.1 0 0) :: st)) : G X g nL n k (mW X h ad v) pc lv (.ref h :: st) := sorry
theorem mW_p0 {x : Int32} : (mW X h ad v).set 0 (h, .inr (0, (mF ad v).set 0 (.int x))) = mW X h ad (up v 0 0 x) := sorry
theorem m_p0 (C : GC X g cc nL RX4 ret rm) {x : Int32} (d : decode cc pc = .ok (.putfield 92, 3)) (kk : G X g nL n k (mW X h ad (up v 0 0 x)) (pc + 3) lv st) : G X g nL n k (mW X h ad v) pc lv (.int x :: .ref h :: st) := sorry
theorem m_g1 (C : GC X g cc nL RX4 ret rm) (d : decode cc pc = .ok (.getfield 7, 3)) (kk : G X g nL n k (mW X h ad v) (pc + 3) lv (.ref (ad 1) :: st)) : G X g nL n k (mW X h ad v) pc lv (.ref h :: st) := sorry
theorem m_ld1 (C : GC X g cc nL RX4 ret rm) {i : Int32} {j : Nat} (d : decode cc pc = .ok (.iaload, 1)) (hi : ix i j 941) (kk : G X g nL n k (mW X h ad v) (pc + 1) lv (.int (v.1 1 j) :: st)) : G X g nL n k (mW X h ad v) pc lv (.int i :: .ref (ad 1) :: st) := sorry
theorem mW_s1 {j : Nat} {x : Int32} : (mW X h ad v).set 1 (ad 1, .inl (xY X 0, 941, .inl (upd (v.1 1) j x))) = mW X h ad (up v 1 j x) := sorry
theorem m_st1 (C : GC X g cc nL RX4 ret rm) {i : Int32} {j : Nat} {x : Int32} (d : decode cc pc = .ok (.iastore, 1)) (hi : ix i j 941) (kk : G X g nL n k (mW X h ad (up v 1 j x)) (pc + 1) lv st) : G X g nL n k (mW X h ad v) pc lv (.int x :: .int i :: .ref (ad 1) :: st) := sorry
theorem m_g2 (C : GC X g cc nL RX4 ret rm) (d : decode cc pc = .ok (.getfield 13, 3)) (kk : G X g nL n k (mW X h ad v) (pc + 3) lv (.ref (ad 2) :: st)) : G X g nL n k (mW X h ad v) pc lv (.ref h :: st) := sorry
theorem m_ld2 (C : GC X g cc nL RX4 ret rm) {i : Int32} {j : Nat} (d : decode cc pc = .ok (.iaload, 1)) (hi : ix i j 7528) (kk : G X g nL n k (mW X h ad v) (pc + 1) lv (.int (v.1 2 j) :: st)) : G X g nL n k (mW X h ad v) pc lv (.int i :: .ref (ad 2) :: st) := sorry
theorem mW_s2 {j : Nat} {x : Int32} : (mW X h ad v).set 2 (ad 2, .inl (xY X 0, 7528, .inl (upd (v.1 2) j x))) = mW X h ad (up v 2 j x) := sorry
theorem m_st2 (C : GC X g cc nL RX4 ret rm) {i : Int32} {j : Nat} {x : Int32} (d : decode cc pc = .ok (.iastore, 1)) (hi : ix i j 7528) (kk : G X g nL n k (mW X h ad (up v 2 j x)) (pc + 1) lv st) : G X g nL n k (mW X h ad v) pc lv (.int x :: .int i :: .ref (ad 2) :: st) := sorry
theorem m_g3 (C : GC X g cc nL RX4 ret rm) (d : decode cc pc = .ok (.getfield 16, 3)) (kk : G X g nL n k (mW X h ad v) (pc + 3) lv (.ref (ad 3) :: st)) : G X g nL n k (mW X h ad v) pc lv (.ref h :: st) := sorry
theorem m_ld3 (C : GC X g cc nL RX4 ret rm) {i : Int32} {j : Nat} (d : decode cc pc = .ok (.iaload, 1)) (hi : ix i j 941) (kk : G X g nL n k (mW X h ad v) (pc + 1) lv (.int (v.1 3 j) :: st)) : G X g nL n k (mW X h ad v) pc lv (.int i :: .ref (ad 3) :: st) := sorry
theorem mW_s3 {j : Nat} {x : Int32} : (mW X h ad v).set 3 (ad 3, .inl (xY X 0, 941, .inl (upd (v.1 3) j x))) = mW X h ad (up v 3 j x) := sorry
theorem m_st3 (C : GC X g cc nL RX4 ret rm) {i : Int32} {j : Nat} {x : Int32} (d : decode cc pc = .ok (.iastore, 1)) (hi : ix i j 941) (kk : G X g nL n k (mW X h ad (up v 3 j x)) (pc + 1) lv st) : G X g nL n k (mW X h ad v) pc lv (.int x :: .int i :: .ref (ad 3) :: st) := sorry
theorem m_g4 (C : GC X g cc nL RX4 ret rm) (d : decode cc pc = .ok (.getfield 195, 3)) (kk : G X g nL n k (mW X h ad v) (pc + 3) lv (.int (v.1 4 0) :: st)) : G X g nL n k (mW X h ad v) pc lv (.ref h :: st) := sorry
theorem mW_p4 {x : Int32} : (mW X h ad v).set 0 (h, .inr (0, (mF ad v).set 4 (.int x))) = mW X h ad (up v 4 0 x) := sorry
theorem m_p4 (C : GC X g cc nL RX4 ret rm) {x : Int32} (d : decode cc pc = .ok (.putfield 195, 3)) (kk : G X g nL n k (mW X h ad (up v 4 0 x)) (pc + 3) lv st) : G X g nL n k (mW X h ad v) pc lv (.int x :: .ref h :: st) := sorry
theorem m_g5 (C : GC X g cc nL RX4 ret rm) (d : decode cc pc = .ok (.getfield 19, 3)) (kk : G X g nL n k (mW X h ad v) (pc + 3) lv (.int (v.1 5 0) :: st)) : G X g nL n k (mW X h ad v) pc lv (.ref h :: st) := sorry
theorem mW_p5 {x : Int32} : (mW X h ad v).set 0 (h, .inr (0, (mF ad v).set 5 (.int x))) = mW X h ad (up v 5 0 x) := sorry
theorem m_p5 (C : GC X g cc nL RX4 ret rm) {x : Int32} (d : decode cc pc = .ok (.putfield 19, 3)) (kk : G X g nL n k (mW X h ad (up v 5 0 x)) (pc + 3) lv st) : G X g nL n k (mW X h ad v) pc lv (.int x :: .ref h :: st) := sorry
theorem m_g6 (C : GC X g cc nL RX4 ret rm) (d : decode cc pc = .ok (.getfield 23, 3)) (kk : G X g nL n k (mW X h ad v) (pc + 3) lv (.int (v.1 6 0) :: st)) : G X g nL n k (mW X h ad v) pc lv (.ref h :: st) := sorry
theorem mW_p6 {x : Int32} : (mW X h ad v).set 0 (h, .inr (0, (mF ad v).set 6 (.int x))) = mW X h ad (up v 6 0 x) := sorry
theorem m_p6 (C : GC X g cc nL RX4 ret rm) {x : Int32} (d : decode cc pc = .ok (.putfield 23, 3)) (kk : G X g nL n k (mW X h ad (up v 6 0 x)) (pc + 3) lv st) : G X g nL n k (mW X h ad v) pc lv (.int x :: .ref h :: st) := sorry
theorem m_g7 (C : GC X g cc nL RX4 ret rm) (d : decode cc pc = .ok (.getfield 26, 3)) (kk : G X g nL n k (mW X h ad v) (pc + 3) lv (.int (v.1 7 0) :: st)) : G X g nL n k (mW X h ad v) pc lv (.ref h :: st) := sorry
theorem mW_p7 {x : Int32} : (mW X h ad v).set 0 (h, .inr (0, (mF ad v).set 7 (.int x))) = mW X h ad (up v 7 0 x) := sorry
theorem m_p7 (C : GC X g cc nL RX4 ret rm) {x : Int32} (d : decode cc pc = .ok (.putfield 26, 3)) (kk : G X g nL n k (mW X h ad (up v 7 0 x)) (pc + 3) lv st) : G X g nL n k (mW X h ad v) pc lv (.int x :: .ref h :: st) := sorry
theorem m_g8 (C : GC X g cc nL RX4 ret rm) (d : decode cc pc = .ok (.getfield 189, 3)) (kk : G X g nL n k (mW X h ad v) (pc + 3) lv (.int (v.1 8 0) :: st)) : G X g nL n k (mW X h ad v) pc lv (.ref h :: st) := sorry
theorem mW_p8 {x : Int32} : (mW X h ad v).set 0 (h, .inr (0, (mF ad v).set 8 (.int x))) = mW X h ad (up v 8 0 x) := sorry
theorem m_p8 (C : GC X g cc nL RX4 ret rm) {x : Int32} (d : decode cc pc = .ok (.putfield 189, 3)) (kk : G X g nL n k (mW X h ad (up v 8 0 x)) (pc + 3) lv st) : G X g nL n k (mW X h ad v) pc lv (.int x :: .ref h :: st) := sorry
theorem m_g9 (C : GC X g cc nL RX4 ret rm) (d : decode cc pc = .ok (.getfield 29, 3)) (kk : G X g nL n k (mW X h ad v) (pc + 3) lv (.int (v.1 9 0) :: st)) : G X g nL n k (mW X h ad v) pc lv (.ref h :: st) := sorry
theorem mW_p9 {x : Int32} : (mW X h ad v).set 0 (h, .inr (0, (mF ad v).set 9 (.int x))) = mW X h ad (up v 9 0 x) := sorry
theorem m_p9 (C : GC X g cc nL RX4 ret rm) {x : Int32} (d : decode cc pc = .ok (.putfield 29, 3)) (kk : G X g nL n k (mW X h ad (up v 9 0 x)) (pc + 3) lv st) : G X g nL n k (mW X h ad v) pc lv (.int x :: .ref h :: st) := sorry
theorem m_g10 (C : GC X g cc nL RX4 ret rm) (d : decode cc pc = .ok (.getfield 192, 3)) (kk : G X g nL n k (mW X h ad v) (pc + 3) lv (.int (v.1 10 0) :: st)) : G X g nL n k (mW X h ad v) pc lv (.ref h :: st) := sorry
theorem mW_p10 {x : Int32} : (mW X h ad v).set 0 (h, .inr (0, (mF ad v).set 10 (.int x))) = mW X h ad (up v 10 0 x) := sorry
theorem m_p10 (C : GC X g cc nL RX4 ret rm) {x : Int32} (d : decode cc pc = .ok (.putfield 192, 3)) (kk : G X g nL n k (mW X h ad (up v 10 0 x)) (pc + 3) lv st) : G X g nL n k (mW X h ad v) pc lv (.int x :: .ref h :: st) := sorry
theorem m_g11 (C : GC X g cc nL RX4 ret rm) (d : decode cc pc = .ok (.getfield 32, 3)) (kk : G X g nL n k (mW X h ad v) (pc + 3) lv (.ref (ad 11) :: st)) : G X g nL n k (mW X h ad v) pc lv (.ref h :: st) := sorry
theorem m_ld11 (C : GC X g cc nL RX4 ret rm) {i : Int32} {j : Nat} (d : decode cc pc = .ok (.laload, 1)) (hi : ix i j 6) (kk : G X g nL n k (mW X h ad v) (pc + 1) lv (.long (v.2 11 j) :: st)) : G X g nL n k (mW X h ad v) pc lv (.int i :: .ref (ad 11) :: st) := sorry
theorem mW_s11 {j : Nat} {x : Int64} : (mW X h ad v).set 4 (ad 11, .inl (xY X 1, 6, .inr (.inl (vp_updL (v.2 11) j x)))) = mW X h ad (upL v 11 j x) := sorry
theorem m_st11 (C : GC X g cc nL RX4 ret rm) {i : Int32} {j : Nat} {x : Int64} (d : decode cc pc = .ok (.lastore, 1)) (hi : ix i j 6) (kk : G X g nL n k (mW X h ad (upL v 11 j x)) (pc + 1) lv st) : G X g nL n k (mW X h ad v) pc lv (.long x :: .int i :: .ref (ad 11) :: st) := sorry
theorem m_g12 (C : GC X g cc nL RX4 ret rm) (d : decode cc pc = .ok (.getfield 36, 3)) (kk : G X g nL n k (mW X h ad v) (pc + 3) lv (.ref (ad 12) :: st)) : G X g nL n k (mW X h ad v) pc lv (.ref h :: st) := sorry
theorem m_ld12 (C : GC X g cc nL RX4 ret rm) {i : Int32} {j : Nat} (d : decode cc pc = .ok (.iaload, 1)) (hi : ix i j 6) (kk : G X g nL n k (mW X h ad v) (pc + 1) lv (.int (v.1 12 j) :: st)) : G X g nL n k (mW X h ad v) pc lv (.int i :: .ref (ad 12) :: st) := sorry
theorem mW_s12 {j : Nat} {x : Int32} : (mW X h ad v).set 5 (ad 12, .inl (xY X 0, 6, .inl (upd (v.1 12) j x))) = mW X h ad (up v 12 j x) := sorry
theorem m_st12 (C : GC X g cc nL RX4 ret rm) {i : Int32} {j : Nat} {x : Int32} (d : decode cc pc = .ok (.iastore, 1)) (hi : ix i j 6) (kk : G X g nL n k (mW X h ad (up v 12 j x)) (pc + 1) lv st) : G X g nL n k (mW X h ad v) pc lv (.int x :: .int i :: .ref (ad 12) :: st) := sorry
theorem m_g13 (C : GC X g cc nL RX4 ret rm) (d : decode cc pc = .ok (.getfield 39, 3)) (kk : G X g nL n k (mW X h ad v) (pc + 3) lv (.ref (ad 13) :: st)) : G X g nL n k (mW X h ad v) pc lv (.ref h :: st) := sorry
theorem m_ld13 (C : GC X g cc nL RX4 ret rm) {i : Int32} {j : Nat} (d : decode cc pc = .ok (.iaload, 1)) (hi : ix i j 6) (kk : G X g nL n k (mW X h ad v) (pc + 1) lv (.int (v.1 13 j) :: st)) : G X g nL n k (mW X h ad v) pc lv (.int i :: .ref (ad 13) :: st) := sorry
theorem mW_s13 {j : Nat} {x : Int32} : (mW X h ad v).set 6 (ad 13, .inl (xY X 0, 6, .inl (upd (v.1 13) j x))) = mW X h ad (up v 13 j x) := sorry
theorem m_st13 (C : GC X g cc nL RX4 ret rm) {i : Int32} {j : Nat} {x : Int32} (d : decode cc pc = .ok (.iastore, 1)) (hi : ix i j 6) (kk : G X g nL n k (mW X h ad (up v 13 j x)) (pc + 1) lv st) : G X g nL n k (mW X h ad v) pc lv (.int x :: .int i :: .ref (ad 13) :: st) := sorry
theorem m_g14 (C : GC X g cc nL RX4 ret rm) (d : decode cc pc = .ok (.getfield 42, 3)) (kk : G X g nL n k (mW X h ad v) (pc + 3) lv (.ref (ad 14) :: st)) : G X g nL n k (mW X h ad v) pc lv (.ref h :: st) := sorry
theorem m_ld14 (C : GC X g cc nL RX4 ret rm) {i : Int32} {j : Nat} (d : decode cc pc = .ok (.iaload, 1)) (hi : ix i j 6) (kk : G X g nL n k (mW X h ad v) (pc + 1) lv (.int (v.1 14 j) :: st)) : G X g nL n k (mW X h ad v) pc lv (.int i :: .ref (ad 14) :: st) := sorry
theorem mW_s14 {j : Nat} {x : Int32} : (mW X h ad v).set 7 (ad 14, .inl (xY X 0, 6, .inl (upd (v.1 14) j x))) = mW X h ad (up v 14 j x) := sorry
theorem m_st14 (C : GC X g cc nL RX4 ret rm) {i : Int32} {j : Nat} {x : Int32} (d : decode cc pc = .ok (.iastore, 1)) (hi : ix i j 6) (kk : G X g nL n k (mW X h ad (up v 14 j x)) (pc + 1) lv st) : G X g nL n k (mW X h ad v) pc lv (.int x :: .int i :: .ref (ad 14) :: st) := sorry
theorem m_g15 (C : GC X g cc nL RX4 ret rm) (d : decode cc pc = .ok (.getfield 45, 3)) (kk : G X g nL n k (mW X h ad v) (pc + 3) lv (.ref (ad 15) :: st)) : G X g nL n k (mW X h ad v) pc lv (.ref h :: st) := sorry
theorem m_ld15 (C : GC X g cc nL RX4 ret rm) {i : Int32} {j : Nat} (d : decode cc pc = .ok (.iaload, 1)) (hi : ix i j 6) (kk : G X g nL n k (mW X h ad v) (pc + 1) lv (.int (v.1 15 j) :: st)) : G X g nL n k (mW X h ad v) pc lv (.int i :: .ref (ad 15) :: st) := sorry
theorem mW_s15 {j : Nat} {x : Int32} : (mW X h ad v).set 8 (ad 15, .inl (xY X 0, 6, .inl (upd (v.1 15) j x))) = mW X h ad (up v 15 j x) := sorry
theorem m_st15 (C : GC X g cc nL RX4 ret rm) {i : Int32} {j : Nat} {x : Int32} (d : decode cc pc = .ok (.iastore, 1)) (hi : ix i j 6) (kk : G X g nL n k (mW X h ad (up v 15 j x)) (pc + 1) lv st) : G X g nL n k (mW X h ad v) pc lv (.int x :: .int i :: .ref (ad 15) :: st) := sorry
theorem m_g16 (C : GC X g cc nL RX4 ret rm) (d : decode cc pc = .ok (.getfield 48, 3)) (kk : G X g nL n k (mW X h ad v) (pc + 3) lv (.ref (ad 16) :: st)) : G X g nL n k (mW X h ad v) pc lv (.ref h :: st) := sorry
theorem m_ld16 (C : GC X g cc nL RX4 ret rm) {i : Int32} {j : Nat} (d : decode cc pc = .ok (.baload, 1)) (hi : ix i j 6) (kk : G X g nL n k (mW X h ad v) (pc + 1) lv (.int (v.1 16 j) :: st)) : G X g nL n k (mW X h ad v) pc lv (.int i :: .ref (ad 16) :: st) := sorry
theorem mW_s16 {j : Nat} {x : Int32} : (mW X h ad v).set 9 (ad 16, .inl (xY X 2, 6, .inl (upd (v.1 16) j x))) = mW X h ad (up v 16 j x) := sorry
theorem m_st16 (C : GC X g cc nL RX4 ret rm) {i : Int32} {j : Nat} {x : Int32} (d : decode cc pc = .ok (.bastore, 1)) (hi : ix i j 6) (kk : G X g nL n k (mW X h ad (up v 16 j (vp_nar .boolean x))) (pc + 1) lv st) : G X g nL n k (mW X h ad v) pc lv (.int x :: .int i :: .ref (ad 16) :: st) := sorry
theorem m_g17 (C : GC X g cc nL RX4 ret rm) (d : decode cc pc = .ok (.getfield 52, 3)) (kk : G X g nL n k (mW X h ad v) (pc + 3) lv (.ref (ad 17) :: st)) : G X g nL n k (mW X h ad v) pc lv (.ref h :: st) := sorry
theorem m_ld17 (C : GC X g cc nL RX4 ret rm) {i : Int32} {j : Nat} (d : decode cc pc = .ok (.baload, 1)) (hi : ix i j 6) (kk : G X g nL n k (mW X h ad v) (pc + 1) lv (.int (v.1 17 j) :: st)) : G X g nL n k (mW X h ad v) pc lv (.int i :: .ref (ad 17) :: st) := sorry
theorem mW_s17 {j : Nat} {x : Int32} : (mW X h ad v).set 10 (ad 17, .inl (xY X 2, 6, .inl (upd (v.1 17) j x))) = mW X h ad (up v 17 j x) := sorry
theorem m_st17 (C : GC X g cc nL RX4 ret rm) {i : Int32} {j : Nat} {x : Int32} (d : decode cc pc = .ok (.bastore, 1)) (hi : ix i j 6) (kk : G X g nL n k (mW X h ad (up v 17 j (vp_nar .boolean x))) (pc + 1) lv st) : G X g nL n k (mW X h ad v) pc lv (.int x :: .int i :: .ref (ad 17) :: st) := sorry
theorem m_g18 (C : GC X g cc nL RX4 ret rm) (d : decode cc pc = .ok (.getfield 55, 3)) (kk : G X g nL n k (mW X h ad v) (pc + 3) lv (.ref (ad 18) :: st)) : G X g nL n k (mW X h ad v) pc lv (.ref h :: st) := sorry
theorem m_ld18 (C : GC X g cc nL RX4 ret rm) {i : Int32} {j : Nat} (d : decode cc pc = .ok (.iaload, 1)) (hi : ix i j 100) (kk : G X g nL n k (mW X h ad v) (pc + 1) lv (.int (v.1 18 j) :: st)) : G X g nL n k (mW X h ad v) pc lv (.int i :: .ref (ad 18) :: st) := sorry
theorem mW_s18 {j : Nat} {x : Int32} : (mW X h ad v).set 11 (ad 18, .inl (xY X 0, 100, .inl (upd (v.1 18) j x))) = mW X h ad (up v 18 j x) := sorry
theorem m_st18 (C : GC X g cc nL RX4 ret rm) {i : Int32} {j : Nat} {x : Int32} (d : decode cc pc = .ok (.iastore, 1)) (hi : ix i j 100) (kk : G X g nL n k (mW X h ad (up v 18 j x)) (pc + 1) lv st) : G X g nL n k (mW X h ad v) pc lv (.int x :: .int i :: .ref (ad 18) :: st) := sorry
theorem m_g19 (C : GC X g cc nL RX4 ret rm) (d : decode cc pc = .ok (.getfield 58, 3)) (kk : G X g nL n k (mW X h ad v) (pc + 3) lv (.ref (ad 19) :: st)) : G X g nL n k (mW X h ad v) pc lv (.ref h :: st) := sorry
theorem m_ld19 (C : GC X g cc nL RX4 ret rm) {i : Int32} {j : Nat} (d : decode cc pc = .ok (.baload, 1)) (hi : ix i j 600) (kk : G X g nL n k (mW X h ad v) (pc + 1) lv (.int (v.1 19 j) :: st)) : G X g nL n k (mW X h ad v) pc lv (.int i :: .ref (ad 19) :: st) := sorry
theorem mW_s19 {j : Nat} {x : Int32} : (mW X h ad v).set 12 (ad 19, .inl (xY X 3, 600, .inl (upd (v.1 19) j x))) = mW X h ad (up v 19 j x) := sorry
theorem m_st19 (C : GC X g cc nL RX4 ret rm) {i : Int32} {j : Nat} {x : Int32} (d : decode cc pc = .ok (.bastore, 1)) (hi : ix i j 600) (kk : G X g nL n k (mW X h ad (up v 19 j (vp_nar .byte x))) (pc + 1) lv st) : G X g nL n k (mW X h ad v) pc lv (.int x :: .int i :: .ref (ad 19) :: st) := sorry
theorem m_g20 (C : GC X g cc nL RX4 ret rm) (d : decode cc pc = .ok (.getfield 95, 3)) (kk : G X g nL n k (mW X h ad v) (pc + 3) lv (.int (v.1 20 0) :: st)) : G X g nL n k (mW X h ad v) pc lv (.ref h :: st) := sorry
theorem mW_p20 {x : Int32} : (mW X h ad v).set 0 (h, .inr (0, (mF ad v).set 20 (.int x))) = mW X h ad (up v 20 0 x) := sorry
theorem m_p20 (C : GC X g cc nL RX4 ret rm) {x : Int32} (d : decode cc pc = .ok (.putfield 95, 3)) (kk : G X g nL n k (mW X h ad (up v 20 0 x)) (pc + 3) lv st) : G X g nL n k (mW X h ad v) pc lv (.int x :: .ref h :: st) := sorry
theorem m_g21 (C : GC X g cc nL RX4 ret rm) (d : decode cc pc = .ok (.getfield 98, 3)) (kk : G X g nL n k (mW X h ad v) (pc + 3) lv (.int (v.1 21 0) :: st)) : G X g nL n k (mW X h ad v) pc lv (.ref h :: st) := sorry
theorem mW_p21 {x : Int32} : (mW X h ad v).set 0 (h, .inr (0, (mF ad v).set 21 (.int x))) = mW X h ad (up v 21 0 x) := sorry
theorem m_p21 (C : GC X g cc nL RX4 ret rm) {x : Int32} (d : decode cc pc = .ok (.putfield 98, 3)) (kk : G X g nL n k (mW X h ad (up v 21 0 x)) (pc + 3) lv st) : G X g nL n k (mW X h ad v) pc lv (.int x :: .ref h :: st) := sorry
theorem m_g22 (C : GC X g cc nL RX4 ret rm) (d : decode cc pc = .ok (.getfield 101, 3)) (kk : G X g nL n k (mW X h ad v) (pc + 3) lv (.int (v.1 22 0) :: st)) : G X g nL n k (mW X h ad v) pc lv (.ref h :: st) := sorry
theorem mW_p22 {x : Int32} : (mW X h ad v).set 0 (h, .inr (0, (mF ad v).set 22 (.int x))) = mW X h ad (up v 22 0 x) := sorry
theorem m_p22 (C : GC X g cc nL RX4 ret rm) {x : Int32} (d : decode cc pc = .ok (.putfield 101, 3)) (kk : G X g nL n k (mW X h ad (up v 22 0 x)) (pc + 3) lv st) : G X g nL n k (mW X h ad v) pc lv (.int x :: .ref h :: st) := sorry
theorem m_g23 (C : GC X g cc nL RX4 ret rm) (d : decode cc pc = .ok (.getfield 62, 3)) (kk : G X g nL n k (mW X h ad v) (pc + 3) lv (.int (v.1 23 0) :: st)) : G X g nL n k (mW X h ad v) pc lv (.ref h :: st) := sorry
theorem mW_p23 {x : Int32} : (mW X h ad v).set 0 (h, .inr (0, (mF ad v).set 23 (.int x))) = mW X h ad (up v 23 0 x) := sorry
theorem m_p23 (C : GC X g cc nL RX4 ret rm) {x : Int32} (d : decode cc pc = .ok (.putfield 62, 3)) (kk : G X g nL n k (mW X h ad (up v 23 0 x)) (pc + 3) lv st) : G X g nL n k (mW X h ad v) pc lv (.int x :: .ref h :: st) := sorry
theorem m_g24 (C : GC X g cc nL RX4 ret rm) (d : decode cc pc = .ok (.getfield 108, 3)) (kk : G X g nL n k (mW X h ad v) (pc + 3) lv (.int (v.1 24 0) :: st)) : G X g nL n k (mW X h ad v) pc lv (.ref h :: st) := sorry
theorem mW_p24 {x : Int32} : (mW X h ad v).set 0 (h, .inr (0, (mF ad v).set 24 (.int x))) = mW X h ad (up v 24 0 x) := sorry
theorem m_p24 (C : GC X g cc nL RX4 ret rm) {x : Int32} (d : decode cc pc = .ok (.putfield 108, 3)) (kk : G X g nL n k (mW X h ad (up v 24 0 x)) (pc + 3) lv st) : G X g nL n k (mW X h ad v) pc lv (.int x :: .ref h :: st) := sorry
theorem m_g25 (C : GC X g cc nL RX4 ret rm) (d : decode cc pc = .ok (.getfield 65, 3)) (kk : G X g nL n k (mW X h ad v) (pc + 3) lv (.ref (ad 25) :: st)) : G X g nL n k (mW X h ad v) pc lv (.ref h :: st) := sorry
theorem m_ld25 (C : GC X g cc nL RX4 ret rm) {i : Int32} {j : Nat} (d : decode cc pc = .ok (.iaload, 1)) (hi : ix i j 5) (kk : G X g nL n k (mW X h ad v) (pc + 1) lv (.int (v.1 25 j) :: st)) : G X g nL n k (mW X h ad v) pc lv (.int i :: .ref (ad 25) :: st) := sorry
theorem mW_s25 {j : Nat} {x : Int32} : (mW X h ad v).set 13 (ad 25, .inl (xY X 0, 5, .inl (upd (v.1 25) j x))) = mW X h ad (up v 25 j x) := sorry
theorem m_st25 (C : GC X g cc nL RX4 ret rm) {i : Int32} {j : Nat} {x : Int32} (d : decode cc pc = .ok (.iastore, 1)) (hi : ix i j 5) (kk : G X g nL n k (mW X h ad (up v 25 j x)) (pc + 1) lv st) : G X g nL n k (mW X h ad v) pc lv (.int x :: .int i :: .ref (ad 25) :: st) := sorry
theorem m_g26 (C : GC X g cc nL RX4 ret rm) (d : decode cc pc = .ok (.getfield 153, 3)) (kk : G X g nL n k (mW X h ad v) (pc + 3) lv (.int (v.1 26 0) :: st)) : G X g nL n k (mW X h ad v) pc lv (.ref h :: st) := sorry
theorem mW_p26 {x : Int32} : (mW X h ad v).set 0 (h, .inr (0, (mF ad v).set 26 (.int x))) = mW X h ad (up v 26 0 x) := sorry
theorem m_p26 (C : GC X g cc nL RX4 ret rm) {x : Int32} (d : decode cc pc = .ok (.putfield 153, 3)) (kk : G X g nL n k (mW X h ad (up v 26 0 x)) (pc + 3) lv st) : G X g nL n k (mW X h ad v) pc lv (.int x :: .ref h :: st) := sorry
theorem m_g27 (C : GC X g cc nL RX4 ret rm) (d : decode cc pc = .ok (.getfield 68, 3)) (kk : G X g nL n k (mW X h ad v) (pc + 3) lv (.ref (ad 27) :: st)) : G X g nL n k (mW X h ad v) pc lv (.ref h :: st) := sorry
theorem m_ld27 (C : GC X g cc nL RX4 ret rm) {i : Int32} {j : Nat} (d : decode cc pc = .ok (.laload, 1)) (hi : ix i j 6) (kk : G X g nL n k (mW X h ad v) (pc + 1) lv (.long (v.2 27 j) :: st)) : G X g nL n k (mW X h ad v) pc lv (.int i :: .ref (ad 27) :: st) := sorry
theorem mW_s27 {j : Nat} {x : Int64} : (mW X h ad v).set 14 (ad 27, .inl (xY X 1, 6, .inr (.inl (vp_updL (v.2 27) j x)))) = mW X h ad (upL v 27 j x) := sorry
theorem m_st27 (C : GC X g cc nL RX4 ret rm) {i : Int32} {j : Nat} {x : Int64} (d : decode cc pc = .ok (.lastore, 1)) (hi : ix i j 6) (kk : G X g nL n k (mW X h ad (upL v 27 j x)) (pc + 1) lv st) : G X g nL n k (mW X h ad v) pc lv (.long x :: .int i :: .ref (ad 27) :: st) := sorry
theorem m_g28 (C : GC X g cc nL RX4 ret rm) (d : decode cc pc = .ok (.getfield 71, 3)) (kk : G X g nL n k (mW X h ad v) (pc + 3) lv (.ref (ad 28) :: st)) : G X g nL n k (mW X h ad v) pc lv (.ref h :: st) := sorry
theorem m_ld28 (C : GC X g cc nL RX4 ret rm) {i : Int32} {j : Nat} (d : decode cc pc = .ok (.iaload, 1)) (hi : ix i j 6) (kk : G X g nL n k (mW X h ad v) (pc + 1) lv (.int (v.1 28 j) :: st)) : G X g nL n k (mW X h ad v) pc lv (.int i :: .ref (ad 28) :: st) := sorry
theorem mW_s28 {j : Nat} {x : Int32} : (mW X h ad v).set 15 (ad 28, .inl (xY X 0, 6, .inl (upd (v.1 28) j x))) = mW X h ad (up v 28 j x) := sorry
theorem m_st28 (C : GC X g cc nL RX4 ret rm) {i : Int32} {j : Nat} {x : Int32} (d : decode cc pc = .ok (.iastore, 1)) (hi : ix i j 6) (kk : G X g nL n k (mW X h ad (up v 28 j x)) (pc + 1) lv st) : G X g nL n k (mW X h ad v) pc lv (.int x :: .int i :: .ref (ad 28) :: st) := sorry
theorem m_g29 (C : GC X g cc nL RX4 ret rm) (d : decode cc pc = .ok (.getfield 74, 3)) (kk : G X g nL n k (mW X h ad v) (pc + 3) lv (.ref (ad 29) :: st)) : G X g nL n k (mW X h ad v) pc lv (.ref h :: st) := sorry
theorem m_ld29 (C : GC X g cc nL RX4 ret rm) {i : Int32} {j : Nat} (d : decode cc pc = .ok (.iaload, 1)) (hi : ix i j 6) (kk : G X g nL n k (mW X h ad v) (pc + 1) lv (.int (v.1 29 j) :: st)) : G X g nL n k (mW X h ad v) pc lv (.int i :: .ref (ad 29) :: st) := sorry
theorem mW_s29 {j : Nat} {x : Int32} : (mW X h ad v).set 16 (ad 29, .inl (xY X 0, 6, .inl (upd (v.1 29) j x))) = mW X h ad (up v 29 j x) := sorry
theorem m_st29 (C : GC X g cc nL RX4 ret rm) {i : Int32} {j : Nat} {x : Int32} (d : decode cc pc = .ok (.iastore, 1)) (hi : ix i j 6) (kk : G X g nL n k (mW X h ad (up v 29 j x)) (pc + 1) lv st) : G X g nL n k (mW X h ad v) pc lv (.int x :: .int i :: .ref (ad 29) :: st) := sorry
theorem m_g30 (C : GC X g cc nL RX4 ret rm) (d : decode cc pc = .ok (.getfield 77, 3)) (kk : G X g nL n k (mW X h ad v) (pc + 3) lv (.ref (ad 30) :: st)) : G X g nL n k (mW X h ad v) pc lv (.ref h :: st) := sorry
theorem m_ld30 (C : GC X g cc nL RX4 ret rm) {i : Int32} {j : Nat} (d : decode cc pc = .ok (.iaload, 1)) (hi : ix i j 6) (kk : G X g nL n k (mW X h ad v) (pc + 1) lv (.int (v.1 30 j) :: st)) : G X g nL n k (mW X h ad v) pc lv (.int i :: .ref (ad 30) :: st) := sorry
theorem mW_s30 {j : Nat} {x : Int32} : (mW X h ad v).set 17 (ad 30, .inl (xY X 0, 6, .inl (upd (v.1 30) j x))) = mW X h ad (up v 30 j x) := sorry
theorem m_st30 (C : GC X g cc nL RX4 ret rm) {i : Int32} {j : Nat} {x : Int32} (d : decode cc pc = .ok (.iastore, 1)) (hi : ix i j 6) (kk : G X g nL n k (mW X h ad (up v 30 j x)) (pc + 1) lv st) : G X g nL n k (mW X h ad v) pc lv (.int x :: .int i :: .ref (ad 30) :: st) := sorry
theorem m_g31 (C : GC X g cc nL RX4 ret rm) (d : decode cc pc = .ok (.getfield 80, 3)) (kk : G X g nL n k (mW X h ad v) (pc + 3) lv (.ref (ad 31) :: st)) : G X g nL n k (mW X h ad v) pc lv (.ref h :: st) := sorry
theorem m_ld31 (C : GC X g cc nL RX4 ret rm) {i : Int32} {j : Nat} (d : decode cc pc = .ok (.iaload, 1)) (hi : ix i j 6) (kk : G X g nL n k (mW X h ad v) (pc + 1) lv (.int (v.1 31 j) :: st)) : G X g nL n k (mW X h ad v) pc lv (.int i :: .ref (ad 31) :: st) := sorry
theorem mW_s31 {j : Nat} {x : Int32} : (mW X h ad v).set 18 (ad 31, .inl (xY X 0, 6, .inl (upd (v.1 31) j x))) = mW X h ad (up v 31 j x) := sorry
theorem m_st31 (C : GC X g cc nL RX4 ret rm) {i : Int32} {j : Nat} {x : Int32} (d : decode cc pc = .ok (.iastore, 1)) (hi : ix i j 6) (kk : G X g nL n k (mW X h ad (up v 31 j x)) (pc + 1) lv st) : G X g nL n k (mW X h ad v) pc lv (.int x :: .int i :: .ref (ad 31) :: st) := sorry
theorem m_g32 (C : GC X g cc nL RX4 ret rm) (d : decode cc pc = .ok (.getfield 83, 3)) (kk : G X g nL n k (mW X h ad v) (pc + 3) lv (.ref (ad 32) :: st)) : G X g nL n k (mW X h ad v) pc lv (.ref h :: st) := sorry
theorem m_ld32 (C : GC X g cc nL RX4 ret rm) {i : Int32} {j : Nat} (d : decode cc pc = .ok (.baload, 1)) (hi : ix i j 6) (kk : G X g nL n k (mW X h ad v) (pc + 1) lv (.int (v.1 32 j) :: st)) : G X g nL n k (mW X h ad v) pc lv (.int i :: .ref (ad 32) :: st) := sorry
theorem mW_s32 {j : Nat} {x : Int32} : (mW X h ad v).set 19 (ad 32, .inl (xY X 2, 6, .inl (upd (v.1 32) j x))) = mW X h ad (up v 32 j x) := sorry
theorem m_st32 (C : GC X g cc nL RX4 ret rm) {i : Int32} {j : Nat} {x : Int32} (d : decode cc pc = .ok (.bastore, 1)) (hi : ix i j 6) (kk : G X g nL n k (mW X h ad (up v 32 j (vp_nar .boolean x))) (pc + 1) lv st) : G X g nL n k (mW X h ad v) pc lv (.int x :: .int i :: .ref (ad 32) :: st) := sorry
theorem m_g33 (C : GC X g cc nL RX4 ret rm) (d : decode cc pc = .ok (.getfield 86, 3)) (kk : G X g nL n k (mW X h ad v) (pc + 3) lv (.ref (ad 33) :: st)) : G X g nL n k (mW X h ad v) pc lv (.ref h :: st) := sorry
theorem m_ld33 (C : GC X g cc nL RX4 ret rm) {i : Int32} {j : Nat} (d : decode cc pc = .ok (.baload, 1)) (hi : ix i j 6) (kk : G X g nL n k (mW X h ad v) (pc + 1) lv (.int (v.1 33 j) :: st)) : G X g nL n k (mW X h ad v) pc lv (.int i :: .ref (ad 33) :: st) := sorry
theorem mW_s33 {j : Nat} {x : Int32} : (mW X h ad v).set 20 (ad 33, .inl (xY X 2, 6, .inl (upd (v.1 33) j x))) = mW X h ad (up v 33 j x) := sorry
theorem m_st33 (C : GC X g cc nL RX4 ret rm) {i : Int32} {j : Nat} {x : Int32} (d : decode cc pc = .ok (.bastore, 1)) (hi : ix i j 6) (kk : G X g nL n k (mW X h ad (up v 33 j (vp_nar .boolean x))) (pc + 1) lv st) : G X g nL n k (mW X h ad v) pc lv (.int x :: .int i :: .ref (ad 33) :: st) := sorry
theorem m_g34 (C : GC X g cc nL RX4 ret rm) (d : decode cc pc = .ok (.getfield 89, 3)) (kk : G X g nL n k (mW X h ad v) (pc + 3) lv (.ref (ad 34) :: st)) : G X g nL n k (mW X h ad v) pc lv (.ref h :: st) := sorry
theorem m_ld34 (C : GC X g cc nL RX4 ret rm) {i : Int32} {j : Nat} (d : decode cc pc = .ok (.iaload, 1)) (hi : ix i j 120) (kk : G X g nL n k (mW X h ad v) (pc + 1) lv (.int (v.1 34 j) :: st)) : G X g nL n k (mW X h ad v) pc lv (.int i :: .ref (ad 34) :: st) := sorry
theorem mW_s34 {j : Nat} {x : Int32} : (mW X h ad v).set 21 (ad 34, .inl (xY X 0, 120, .inl (upd (v.1 34) j x))) = mW X h ad (up v 34 j x) := sorry
theorem m_st34 (C : GC X g cc nL RX4 ret rm) {i : Int32} {j : Nat} {x : Int32} (d : decode cc pc = .ok (.iastore, 1)) (hi : ix i j 120) (kk : G X g nL n k (mW X h ad (up v 34 j x)) (pc + 1) lv st) : G X g nL n k (mW X h ad v) pc lv (.int x :: .int i :: .ref (ad 34) :: st) := sorry
theorem m_g35 (C : GC X g cc nL RX4 ret rm) (d : decode cc pc = .ok (.getfield 310, 3)) (kk : G X g nL n k (mW X h ad v) (pc + 3) lv (.int (v.1 35 0) :: st)) : G X g nL n k (mW X h ad v) pc lv (.ref h :: st) := sorry
theorem mW_p35 {x : Int32} : (mW X h ad v).set 0 (h, .inr (0, (mF ad v).set 35 (.int x))) = mW X h ad (up v 35 0 x) := sorry
theorem m_p35 (C : GC X g cc nL RX4 ret rm) {x : Int32} (d : decode cc pc = .ok (.putfield 310, 3)) (kk : G X g nL n k (mW X h ad (up v 35 0 x)) (pc + 3) lv st) : G X g nL n k (mW X h ad v) pc lv (.int x :: .ref h :: st) := sorry
end MROWS
def rmL (j : Nat) : Room := { frames := j, cells := 0, slots := 0, locals := 40 * j }
/-- a contract of a model's method: the answer r, the numbers v1 behind it -/
def MM (X : xT) (h : Nat) (ad : Nat → Nat) (y : MethodName) (cc : ByteArray) (nL : Nat) (ret : Option FieldType) (j : Nat) (av : List Value) (v : MV) (r : Option Value) (v1 : MV) : Prop := MetQ X y cc nL ret (rmL j) 0 0 (.ref h :: av) (mW X h ad v) (eqQ r (mW X h ad v1))
/-- a static one, of numbers alone -/
def MS (X : xT) (y : MethodName) (cc : ByteArray) (nL : Nat) (ret : Option FieldType) (j : Nat) (av : List Value) (r : Option Value) : Prop := MetQ X y cc nL ret (rmL j) 0 0 av [] (eqQ r [])
section MCALL
variable {X : xT} {g : gT} {cc : ByteArray} {nL : Nat} {own : String} {ret : Option FieldType} {pc : Nat} {lv : List (Nat × Value)} {st rest : List Value} {h : Nat} {ad : Nat → Nat} {v v1 : MV} {J j : Nat} {y : MethodName} {ccy : ByteArray} {nLy : Nat} {rety : Option FieldType} {As : List Value} {idx na : Nat} {r : Option Value} {ws : va_W}
theorem m_call (C : GC X g cc nL RX4 ret (rmL J)) (hM : MM X h ad y ccy nLy rety j As v r v1) (hw : GoodIn lw_all (wsV RX4 idx RX4 y (ws_ y ccy nLy rety)))
    (hd : y.cls = RX4 ∧ y.cls ≠ "java/lang/invoke/MethodHandle" ∧ y.cls ≠ "java/lang/invoke/VarHandle" ∧ (parseMethodDescriptor y.desc).map (fun d => d.parameters.length) = some na) (hj : j + 1 ≤ J) (hL : nLy ≤ 21) (hn : As.length = na)
    (hst : st = As.reverse ++ .ref h :: rest) (hcat : (rest.map fun v => v.category).sum ≤ 8) (d : decode cc pc = .ok (.invokevirtual idx, 3))
    (kk : G X g nL 0 0 (mW X h ad v1) (pc + 3) lv (r.toList ++ rest)) : G X g nL 0 0 (mW X h ad v) pc lv st := sorry
theorem m_callS (C : GC X g cc nL own ret (rmL J)) (hM : MS X y ccy nLy rety j As r) (hw : GoodIn lw_all (va_wsS own idx y (ws_ y ccy nLy rety)))
    (hd : y.cls ≠ "java/lang/invoke/MethodHandle" ∧ y.cls ≠ "java/lang/invoke/VarHandle" ∧ (parseMethodDescriptor y.desc).map (fun d => d.parameters.length) = some na) (hj : j + 1 ≤ J) (hL : nLy ≤ 21) (hn : As.length = na)
    (hst : st = As.reverse ++ rest) (hcat : (rest.map fun v => v.category).sum ≤ 8) (d : decode cc pc = .ok (.invokestatic idx, 3))
    (kk : G X g nL 0 0 ws (pc + 3) lv (r.toList ++ rest)) : G X g nL 0 0 ws pc lv st := sorry
end MCALL

