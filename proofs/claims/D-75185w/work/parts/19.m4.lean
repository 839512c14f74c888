set_option maxRecDepth 100000
def p_placeInList (v : MV) (a1 : Int32) : Int32 := optI (fstB (fun k => decide (v.1 1 (605 + k) = a1)) (nx (v.1 1 18)) 0)
set_option maxHeartbeats 4000000 in
theorem w_placeInList (X : xT) (h : Nat) (ad : Nat → Nat) (v : MV) (a1 : Int32)  (hl : v.1 1 18 = nI (nx (v.1 1 18))) (hl1 : nx (v.1 1 18) ≤ 240) : MM X h ad yX4_placeInList cX4_placeInList 3 (some .int) 0 [.int a1] v (some (.int (p_placeInList v a1))) v := sorry
def p_takesFromList (v : MV) (k : Nat) : MV := (up (upR v 1 (tkR (v.1 1) k (nx (v.1 1 18) - 1))) 1 18 (nI (nx (v.1 1 18) - 1)))
theorem fr_takesFromList (v : MV) (k : Nat) (a j : Nat) (hf : (a ≠ 1 ∨ j ≠ 18) ∧ (a ≠ 1 ∨ j < 605)) : (p_takesFromList v k).1 a j = v.1 a j := sorry
set_option maxHeartbeats 4000000 in
theorem w_takesFromList (X : xT) (h : Nat) (ad : Nat → Nat) (v : MV) (k : Nat)  (hl : v.1 1 18 = nI (nx (v.1 1 18))) (hl1 : nx (v.1 1 18) ≤ 240) (hkl : k < nx (v.1 1 18)) : MM X h ad yX4_takesFromList cX4_takesFromList 3 none 0 [.int (nI k)] v none (p_takesFromList v k) := sorry
def p_putsFirst (v : MV) (its : Nat) : MV := (up (up (upR v 1 (pfR (v.1 1) (nx (v.1 1 18)) 0)) 1 605 (nI its)) 1 18 (nI ((nx (v.1 1 18)) + 1)))
theorem fr_putsFirst (v : MV) (its : Nat) (a j : Nat) (hf : (a ≠ 1 ∨ j ≠ 18) ∧ (a ≠ 1 ∨ j < 605)) : (p_putsFirst v its).1 a j = v.1 a j := sorry
set_option maxHeartbeats 4000000 in
theorem w_putsFirst (X : xT) (h : Nat) (ad : Nat → Nat) (v : MV) (its : Nat)  (hl : v.1 1 18 = nI (nx (v.1 1 18))) (hl2 : nx (v.1 1 18) < 240) : MM X h ad yX4_putsFirst cX4_putsFirst 3 none 0 [.int (nI its)] v none (p_putsFirst v its) := sorry
def p_logs (v : MV) (its : Nat) (a2 : Int32) : MV := (up (up (up (up (up (upR v 1 (lgR (v.1 1) 3)) 1 845 (nI ((100 * (its / 40)) + (its % 40)))) 1 846 ((upR v 1 (lgR (v.1 1) 3)).1 1 (125 + its))) 1 847 a2) 1 848 ((upR v 1 (lgR (v.1 1) 3)).1 1 (365 + its))) 1 19 (p_lesser (24 : Int32) (((upR v 1 (lgR (v.1 1) 3)).1 1 19) + (1 : Int32))))
theorem fr_logs (v : MV) (its : Nat) (a2 : Int32) (a j : Nat) (hf : (a ≠ 1 ∨ j ≠ 19) ∧ (a ≠ 1 ∨ j < 845)) : (p_logs v its a2).1 a j = v.1 a j := sorry
set_option maxHeartbeats 4000000 in
theorem w_logs (X : xT) (h : Nat) (ad : Nat → Nat) (v : MV) (its : Nat) (a2 : Int32)  (hi : its < 240) : MM X h ad yX4_logs cX4_logs 4 none 1 [.int (nI its), .int a2] v none (p_logs v its a2) := sorry
