set_option maxRecDepth 100000
def p_batchLine (v : MV)  : MV := (lt_ ((blN (p_packed v).2 (p_packed v).1 (nx (v.1 26 0))) : MV) (fun u =>
    (if (p_failed u) = (0 : Int32) then (lt_ ((p_word (upL (up (up u 22 0 (nI (skA u))) 22 0 (nI (weA u))) 27 (nx (v.1 26 0)) (p_packed v).1) 3) : MV) (fun n1 =>
    (lt_ ((p_digits n1 (0 : Int32) (999999 : Int32)).2 : MV) (fun n2 =>
    (lt_ ((p_word (up n2 28 (nx (v.1 26 0)) (p_digits n1 (0 : Int32) (999999 : Int32)).1) 4) : MV) (fun n3 =>
    (lt_ ((p_digits n3 (1 : Int32) (40 : Int32)).2 : MV) (fun n4 =>
    (lt_ ((p_word (up n4 29 (nx (v.1 26 0)) (p_digits n3 (1 : Int32) (40 : Int32)).1) 5) : MV) (fun n5 =>
    (lt_ ((p_digits n5 (0 : Int32) (999 : Int32)).2 : MV) (fun n6 =>
    (lt_ ((p_word (up n6 30 (nx (v.1 26 0)) (p_digits n5 (0 : Int32) (999 : Int32)).1) 6) : MV) (fun n7 =>
    (lt_ ((p_digits n7 (1 : Int32) (6 : Int32)).2 : MV) (fun n8 =>
    (lt_ ((p_accept (up n8 31 (nx (v.1 26 0)) (p_digits n7 (1 : Int32) (6 : Int32)).1) 7).2 : MV) (fun n9 =>
    (lt_ ((p_accept (up n9 32 (nx (v.1 26 0)) (vp_nar .boolean (p_accept (up n8 31 (nx (v.1 26 0)) (p_digits n7 (1 : Int32) (6 : Int32)).1) 7).1)) 8).2 : MV) (fun n10 =>
    (if (vp_nar .boolean (p_accept (up n9 32 (nx (v.1 26 0)) (vp_nar .boolean (p_accept (up n8 31 (nx (v.1 26 0)) (p_digits n7 (1 : Int32) (6 : Int32)).1) 7).1)) 8).1) = (0 : Int32) then (lt_ ((p_word (up n10 33 (nx (v.1 26 0)) (vp_nar .boolean (p_accept (up n9 32 (nx (v.1 26 0)) (vp_nar .boolean (p_accept (up n8 31 (nx (v.1 26 0)) (p_digits n7 (1 : Int32) (6 : Int32)).1) 7).1)) 8).1)) 9) : MV) (fun n11 =>
    (if (p_failed n11) = (0 : Int32) then (up n11 26 0 (nI ((nx (v.1 26 0)) + 1))) else (up n11 26 0 (nI ((nx (v.1 26 0)) + 0)))))) else (lt_ ((up n10 33 (nx (v.1 26 0)) (vp_nar .boolean (p_accept (up n9 32 (nx (v.1 26 0)) (vp_nar .boolean (p_accept (up n8 31 (nx (v.1 26 0)) (p_digits n7 (1 : Int32) (6 : Int32)).1) 7).1)) 8).1)) : MV) (fun n11 =>
    (if (p_failed n11) = (0 : Int32) then (up n11 26 0 (nI ((nx (v.1 26 0)) + 1))) else (up n11 26 0 (nI ((nx (v.1 26 0)) + 0))))))))))))))))))))))))))) else (lt_ ((p_word (upL (up u 22 0 (u.1 22 0)) 27 (nx (v.1 26 0)) (p_packed v).1) 3) : MV) (fun n1 =>
    (lt_ ((p_digits n1 (0 : Int32) (999999 : Int32)).2 : MV) (fun n2 =>
    (lt_ ((p_word (up n2 28 (nx (v.1 26 0)) (p_digits n1 (0 : Int32) (999999 : Int32)).1) 4) : MV) (fun n3 =>
    (lt_ ((p_digits n3 (1 : Int32) (40 : Int32)).2 : MV) (fun n4 =>
    (lt_ ((p_word (up n4 29 (nx (v.1 26 0)) (p_digits n3 (1 : Int32) (40 : Int32)).1) 5) : MV) (fun n5 =>
    (lt_ ((p_digits n5 (0 : Int32) (999 : Int32)).2 : MV) (fun n6 =>
    (lt_ ((p_word (up n6 30 (nx (v.1 26 0)) (p_digits n5 (0 : Int32) (999 : Int32)).1) 6) : MV) (fun n7 =>
    (lt_ ((p_digits n7 (1 : Int32) (6 : Int32)).2 : MV) (fun n8 =>
    (lt_ ((p_accept (up n8 31 (nx (v.1 26 0)) (p_digits n7 (1 : Int32) (6 : Int32)).1) 7).2 : MV) (fun n9 =>
    (lt_ ((p_accept (up n9 32 (nx (v.1 26 0)) (vp_nar .boolean (p_accept (up n8 31 (nx (v.1 26 0)) (p_digits n7 (1 : Int32) (6 : Int32)).1) 7).1)) 8).2 : MV) (fun n10 =>
    (if (vp_nar .boolean (p_accept (up n9 32 (nx (v.1 26 0)) (vp_nar .boolean (p_accept (up n8 31 (nx (v.1 26 0)) (p_digits n7 (1 : Int32) (6 : Int32)).1) 7).1)) 8).1) = (0 : Int32) then (lt_ ((p_word (up n10 33 (nx (v.1 26 0)) (vp_nar .boolean (p_accept (up n9 32 (nx (v.1 26 0)) (vp_nar .boolean (p_accept (up n8 31 (nx (v.1 26 0)) (p_digits n7 (1 : Int32) (6 : Int32)).1) 7).1)) 8).1)) 9) : MV) (fun n11 =>
    (if (p_failed n11) = (0 : Int32) then (up n11 26 0 (nI ((nx (v.1 26 0)) + 1))) else (up n11 26 0 (nI ((nx (v.1 26 0)) + 0)))))) else (lt_ ((up n10 33 (nx (v.1 26 0)) (vp_nar .boolean (p_accept (up n9 32 (nx (v.1 26 0)) (vp_nar .boolean (p_accept (up n8 31 (nx (v.1 26 0)) (p_digits n7 (1 : Int32) (6 : Int32)).1) 7).1)) 8).1)) : MV) (fun n11 =>
    (if (p_failed n11) = (0 : Int32) then (up n11 26 0 (nI ((nx (v.1 26 0)) + 1))) else (up n11 26 0 (nI ((nx (v.1 26 0)) + 0))))))))))))))))))))))))))))))
theorem fr_batchLine (v : MV)  (a j : Nat) (hf : (a ≠ 22 ∨ j ≠ 0) ∧ (a ≠ 23 ∨ j ≠ 0) ∧ (a ≠ 24 ∨ j ≠ 0) ∧ (a ≠ 26 ∨ j ≠ 0) ∧ a ≠ 28 ∧ a ≠ 29 ∧ a ≠ 30 ∧ a ≠ 31 ∧ a ≠ 32 ∧ a ≠ 33) : (p_batchLine v ).1 a j = v.1 a j := sorry
set_option maxHeartbeats 4000000 in
theorem w_batchLine (X : xT) (h : Nat) (ad : Nat → Nat) (v : MV)   (hT : tOK v) (hnb : v.1 26 0 = nI (nx (v.1 26 0))) (hnb5 : nx (v.1 26 0) ≤ 5) : MM X h ad yX4_batchLine cX4_batchLine 4 none 7 [] v none (p_batchLine v) := sorry
