set_option maxRecDepth 100000
theorem pm_new {α : Type} (A B : List α) (c : α) : (A ++ B ++ [c]).Perm ((A ++ [c]) ++ B) := sorry
theorem min_N {a b : Nat} (h : a ≤ b) (hb : b < 2 ^ 31) : (if nI b < nI a then nI b else nI a) = nI a := sorry
theorem cpy_0 {α : Type} {f g : Nat → α} {n j : Nat} (h : j < n) : va_cpy f g 0 0 n j = f j := sorry
set_option maxHeartbeats 4000000 in
theorem w_copyOf3 (X : xT) (e cap m : Nat) (f : Nat → Option Nat) (Pw : va_W) {ci M : Nat} {T9 : u_T} {Cn : String} (hc : vwCl[ci]? = some (Cn, T9, M)) (hca : (Cn, "java/lang/Object") ∈ nC) (hp : ∀ j, j < cap → ∀ y, f j = some y → ∃ fs, (y, Sum.inr (ci, fs)) ∈ Pw) (hm : cap ≤ m) (hm2 : m ≤ 2000) : MetQ X yJ14_copyOf_3 cJ14_copyOf_3 4 (some (.array (.object "java/lang/Object"))) (rmC 1 1 m) 1 m [.ref e, .int (nI m), .ref (xA X 202)] ([(e, .inl (xY X 4, cap, .inr (.inr (.inr (.inr f)))))] ++ Pw) (fun r w => ∃ q : Nat, r = some (.ref q) ∧ w = [(e, .inl (xY X 4, cap, .inr (.inr (.inr (.inr f))))), (q, .inl (xY X 4, m, .inr (.inr (.inr (.inr (va_cpy f (fun _ => none) 0 0 cap))))))] ++ Pw) := sorry
set_option maxHeartbeats 4000000 in
theorem w_copyOf2 (X : xT) (e cap m : Nat) (f : Nat → Option Nat) (Pw : va_W) {ci M : Nat} {T9 : u_T} {Cn : String} (hc : vwCl[ci]? = some (Cn, T9, M)) (hca : (Cn, "java/lang/Object") ∈ nC) (hp : ∀ j, j < cap → ∀ y, f j = some y → ∃ fs, (y, Sum.inr (ci, fs)) ∈ Pw) (hm : cap ≤ m) (hm2 : m ≤ 2000) : MetQ X yJ14_copyOf_2 cJ14_copyOf_2 2 (some (.array (.object "java/lang/Object"))) (rmC 2 1 m) 1 m [.ref e, .int (nI m)] ([(e, .inl (xY X 4, cap, .inr (.inr (.inr (.inr f)))))] ++ Pw) (fun r w => ∃ q : Nat, r = some (.ref q) ∧ w = [(e, .inl (xY X 4, cap, .inr (.inr (.inr (.inr f))))), (q, .inl (xY X 4, m, .inr (.inr (.inr (.inr (va_cpy f (fun _ => none) 0 0 cap))))))] ++ Pw) := sorry
/-- a full ring, just before it grows -/
def gwI (cap : Nat) (f : Nat → Option Nat) (hd : Nat) (L : List Nat) : Prop := 1 ≤ cap ∧ cap ≤ 400 ∧ hd < cap ∧ L.length = cap ∧ ∀ i, i < cap → f ((hd + i) % cap) = L[i]?
def gwJ (cap : Nat) : Nat := if cap < 64 then cap + 2 else cap / 2
def gwF (f : Nat → Option Nat) (cap hd : Nat) (i : Nat) : Nat → Option Nat := fun j => if hd ≤ j ∧ j < i then none else va_cpy (va_cpy f (fun _ => none) 0 0 cap) (va_cpy f (fun _ => none) 0 0 cap) hd (hd + gwJ cap) (cap - hd) j
theorem gwF_0 (f : Nat → Option Nat) (cap hd : Nat) : gwF f cap hd hd = va_cpy (va_cpy f (fun _ => none) 0 0 cap) (va_cpy f (fun _ => none) 0 0 cap) hd (hd + gwJ cap) (cap - hd) := sorry
theorem gwF_s (f : Nat → Option Nat) (cap hd i : Nat) (h : hd ≤ i) : gwF f cap hd (i + 1) = va_up (gwF f cap hd i) i none := sorry
theorem gw_ok {cap hd : Nat} {f : Nat → Option Nat} {L : List Nat} (h : gwI cap f hd L) : dqI (cap + gwJ cap) (gwF f cap hd (hd + gwJ cap)) (hd + gwJ cap) hd L := sorry
theorem gw_mem {cap hd : Nat} {f : Nat → Option Nat} {L : List Nat} {Pw : va_W} {ci : Nat} (h : gwI cap f hd L) (hp : ∀ y ∈ L, ∃ fs, (y, Sum.inr (ci, fs)) ∈ Pw) : ∀ j, j < cap → ∀ y, f j = some y → ∃ fs, (y, Sum.inr (ci, fs)) ∈ Pw := sorry
theorem gw_hd {cap hd : Nat} {f : Nat → Option Nat} {L : List Nat} (h : gwI cap f hd L) : va_cpy f (fun _ => none) 0 0 cap hd = some (L.getD 0 0) := sorry
theorem gw_max {c : Nat} (h : c ≤ 2000) : nI c - (2147483639 : Int32) ≤ 0 := sorry
theorem pm_gw {α : Type} (a b : α) (T : List α) : ([a, b] ++ T).Perm (([b] ++ T) ++ [a]) := sorry
theorem pm_gx {α : Type} (a b c : α) (T : List α) : (([b, c] ++ T) ++ [a]).Perm ([a, b, c] ++ T) := sorry
theorem pm_gd {α : Type} (a b c : α) (T : List α) : ([a, b, c] ++ T).Perm (([a, c] ++ T) ++ [b]) := sorry
set_option maxHeartbeats 4000000 in
theorem w_dqGrow (X : xT) (a e cap hd : Nat) (f : Nat → Option Nat) (L : List Nat) (Pw : va_W) {ci M : Nat} {T9 : u_T} {Cn : String} (hc : vwCl[ci]? = some (Cn, T9, M)) (hca : (Cn, "java/lang/Object") ∈ nC) (hG : gwI cap f hd L) (hp : ∀ y ∈ L, ∃ fs, (y, Sum.inr (ci, fs)) ∈ Pw) : MetQ X yJ1_grow cJ1_grow 9 none (rmC 3 1 (cap + gwJ cap)) 1 (cap + gwJ cap) [.ref a, .int 1] (dqW X a e cap f hd hd ++ Pw) (fun r w => r = none ∧ ∃ e2 : Nat, w = dqW X a e2 (cap + gwJ cap) (gwF f cap hd (hd + gwJ cap)) (hd + gwJ cap) hd ++ Pw) := sorry
