/-! what the model's methods ask, out of the relation DW -/
set_option maxRecDepth 100000
section PREM
variable {X : xT} {d : Nat} {m : MV} {w : va_W}
theorem DW.inv (h : DW X d m w) : ∃ (ad : Nat → Nat) (dv sg : Nat → Int32) (v : MV) (b : Bool) (rl bg : Nat → Int32) (f fp fa : Nat → Option Nat) (vf : Nat → Int32) (ba bn : Nat → Nat) (L : List (Nat × Nat)) (l : List Int32) (S : List stR) (J : va_W), INV X m ad dv sg v b rl bg f fp fa vf ba bn L l S J := sorry
theorem P_hr (h : DW X d m w) : m.1 4 0 = nI (nx (m.1 4 0)) := sorry
theorem P_hr1 (h : DW X d m w) : nx (m.1 4 0) ≤ 8 := sorry
theorem P_hm (h : DW X d m w) : m.1 1 3 = nI (nx (m.1 1 3)) := sorry
theorem P_hm1 (h : DW X d m w) : nx (m.1 1 3) ≤ 99 := sorry
theorem P_hB (h : DW X d m w) : batOK m := sorry
theorem mt_y {m : MV} (h : p_isMounted m = 1) : m.1 1 0 = 1 := sorry
theorem P_hWm (h : DW X d m w) : p_isMounted m = 1 → webOK m := sorry
theorem rd_y {m : MV} (h : p_isReadyNow m = 1) : m.1 1 9 = 1 := sorry
theorem P_cx (h : DW X d m w) (hz : p_isReadyNow m = 1) : rollOK (m.1 1) ∧ bgOK m := sorry
theorem P_hWr (h : DW X d m w) : p_isReadyNow m = 1 → webOK m := sorry
theorem P_hLn (h : DW X d m w) : p_isMounted m = 1 → lrnOK m := sorry
theorem P_hl (h : DW X d m w) : m.1 1 18 = nI (nx (m.1 1 18)) := sorry
theorem P_hl1 (h : DW X d m w) : nx (m.1 1 18) ≤ 240 := sorry
theorem P_hli (h : DW X d m w) : ∀ k, k < nx (m.1 1 18) → inN (m.1 1 (605 + k)) 0 239 := sorry
theorem P_hPr (h : DW X d m w) : p_isReadyNow m = 1 → prOK m := sorry
theorem P_2 (h : DW X d m w) : inN (m.1 1 2) 0 70000 := sorry
theorem P_hsn (h : DW X d m w) : m.1 1 2 = nI (nx (m.1 1 2)) := sorry
theorem P_hsn1 (h : DW X d m w) : nx (m.1 1 2) ≤ 1000000 := sorry
theorem P_hg (h : DW X d m w) : m.1 1 19 = nI (nx (m.1 1 19)) := sorry
theorem P_hg1 (h : DW X d m w) : nx (m.1 1 19) ≤ 24 := sorry
theorem P_hpt (h : DW X d m w) : p_isReadyNow m = 1 → ¬ p_pitch m = 0 := sorry
theorem P_hnm (h : DW X d m w) : nmOK m := sorry
theorem P_hf (h : DW X d m w) : m.1 35 0 = nI (nx (m.1 35 0)) := sorry
theorem P_hf1 (h : DW X d m w) : nx (m.1 35 0) ≤ 120 := sorry
theorem P_hbf (h : DW X d m w) : m.1 20 0 = nI (nx (m.1 20 0)) := sorry
theorem P_hbf1 (h : DW X d m w) : nx (m.1 20 0) ≤ 600 := sorry
theorem P_hH (h : DW X d m w) : ∀ r, r < nx (m.1 4 0) → inN (m.1 2 (941 * r + 3)) 0 99 := sorry
end PREM

