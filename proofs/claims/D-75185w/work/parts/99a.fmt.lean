/-! the formatted text: a StringBuilder that holds the list l of plain signs -/
set_option maxRecDepth 100000
def sbC (X : xT) (sb va cap : Nat) (ml : Int32) (f : Nat → Int32) (ct : Nat) : va_W := [(sb, .inr (16, [.ref va, .int (0 : Int32), .int ml, .int (nI ct)])), (va, .inl (xY X 3, cap, .inl f))]
def sbI (f : Nat → Int32) (cap : Nat) (l : List Int32) : Prop := 16 ≤ cap ∧ l.length ≤ cap ∧ cap ≤ 242 ∧ ascN f cap ∧ ∀ i, i < l.length → l[i]? = some (f i)
theorem sbI_nil {f : Nat → Int32} {cap : Nat} {l : List Int32} (h : sbI f cap l) : sbI f cap [] := sorry
theorem sb_app {f g : Nat → Int32} {l : List Int32} {x : Int32} {cap cap2 : Nat} (h : sbI f cap l) (hg : ∀ i, i < l.length → g i = f i) (hx : g l.length = x) (h16 : cap ≤ cap2) (h2 : l.length < cap2) (h3 : cap2 ≤ 242) (ha : ascN g cap2) : sbI g cap2 (l ++ [x]) := sorry
section FMT
variable {X : xT} {g : gT} {cc : ByteArray} {nL n k : Nat} {own : String} {ret : Option FieldType} {rm : Room} {ws wr : va_W} {pc : Nat} {lv : List (Nat × Value)} {rest : List Value} {idx sb va cap : Nat} {ml x : Int32} {f : Nat → Int32} {l : List Int32}
/-- append of a plain sign -/
theorem g_SBc (C : GC X g cc nL own ret rm) (hw : GoodIn lw_all (wsV own idx "java/lang/StringBuilder" yJ9_append_3 (ws_ yJ9_append_3 cJ9_append_3 2 (some (.object "java/lang/StringBuilder"))))) (hx : asc x) (h : sbI f cap l) (hl : l.length < 120) (hf : 6 ≤ rm.frames) (hlo : 300 ≤ rm.locals) (h1 : n + 1 ≤ rm.cells) (h2 : k + 242 ≤ rm.slots) (hcat : (rest.map fun v => v.category).sum ≤ 8) (d : decode cc pc = .ok (.invokevirtual idx, 3)) (hperm : ws.Perm (sbC X sb va cap ml f l.length ++ wr))
    (kk : ∀ (va2 cap2 : Nat) (f2 : Nat → Int32), sbI f2 cap2 (l ++ [x]) → G X g nL (n + 1) (k + 242) (sbC X sb va2 cap2 ml f2 (l ++ [x]).length ++ wr) (pc + 3) lv (.ref sb :: rest)) : G X g nL n k ws pc lv (.int x :: .ref sb :: rest) := sorry
/-- append of a digit -/
theorem g_SBi {d9 : Nat} (C : GC X g cc nL own ret rm) (hw : GoodIn lw_all (wsV own idx "java/lang/StringBuilder" yJ9_append_2 (ws_ yJ9_append_2 cJ9_append_2 2 (some (.object "java/lang/StringBuilder"))))) (hd9 : d9 < 10) (h : sbI f cap l) (hl : l.length < 120) (hf : 6 ≤ rm.frames) (hlo : 300 ≤ rm.locals) (h1 : n + 1 ≤ rm.cells) (h2 : k + 242 ≤ rm.slots) (hcat : (rest.map fun v => v.category).sum ≤ 8) (d : decode cc pc = .ok (.invokevirtual idx, 3)) (hperm : ws.Perm (sbC X sb va cap ml f l.length ++ wr))
    (kk : ∀ (va2 cap2 : Nat) (f2 : Nat → Int32), sbI f2 cap2 (l ++ [nI (48 + d9)]) → G X g nL (n + 1) (k + 242) (sbC X sb va2 cap2 ml f2 (l ++ [nI (48 + d9)]).length ++ wr) (pc + 3) lv (.ref sb :: rest)) : G X g nL n k ws pc lv (.int (nI d9) :: .ref sb :: rest) := sorry
/-- the name's letters -/
def nmS (sf : Nat → Int32) (L : Nat) : List Int32 := (List.range L).map sf
theorem nmS_len (sf : Nat → Int32) (L : Nat) : (nmS sf L).length = L := sorry
/-- append of a name to an empty text -/
theorem g_SBs {s sv L : Nat} {sf : Nat → Int32} (C : GC X g cc nL own ret rm) (hw : GoodIn lw_all (wsV own idx "java/lang/StringBuilder" yJ9_append (ws_ yJ9_append cJ9_append 2 (some (.object "java/lang/StringBuilder"))))) (hs : letF sf L) (hL : L ≤ 6) (h : sbI f cap []) (hf : 6 ≤ rm.frames) (hlo : 300 ≤ rm.locals) (h1 : n ≤ rm.cells) (h2 : k ≤ rm.slots) (hcat : (rest.map fun v => v.category).sum ≤ 8) (d : decode cc pc = .ok (.invokevirtual idx, 3)) (hperm : ws.Perm ((sbC X sb va cap ml f 0 ++ [(s, .inr (17, [.ref sv, .int (0 : Int32), .int (0 : Int32), .int (0 : Int32)])), (sv, .inl (xY X 3, L, .inl sf))]) ++ wr))
    (kk : ∀ (f2 : Nat → Int32), sbI f2 cap (nmS sf L) → G X g nL n k ((sbC X sb va cap ml f2 (nmS sf L).length ++ [(s, .inr (17, [.ref sv, .int (0 : Int32), .int (0 : Int32), .int (0 : Int32)])), (sv, .inl (xY X 3, L, .inl sf))]) ++ wr) (pc + 3) lv (.ref sb :: rest)) : G X g nL n k ws pc lv (.ref s :: .ref sb :: rest) := sorry
end FMT

