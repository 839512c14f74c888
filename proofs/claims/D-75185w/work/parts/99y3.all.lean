/-! the law's whole walk -/
set_option maxRecDepth 100000
set_option maxHeartbeats 4000000 in
theorem law_all {X : xT} {g : gT} {b L : Nat} {xs : Nat → Int32} (C : GC X g code 7 RX0 ret room_1) (hC : LC X g b L xs) (hE : ∀ (n k : Nat) (ws : va_W) (lv : List (Nat × Value)), n ≤ 603072 → k ≤ 7178346 → G X g 7 n k ws 2909 lv [.int 1]) : G X g 7 0 0 [] 0 [(0, .ref b)] [] := sorry
