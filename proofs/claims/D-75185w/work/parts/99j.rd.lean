set_option maxRecDepth 100000
theorem pmR {α : Type} (B l R P : List α) : (B ++ (l ++ (R ++ P))).Perm ((B ++ R) ++ (l ++ P)) := by
  rw [List.append_assoc B R]
  exact List.Perm.append_left B (List.perm_append_comm_assoc l R P)
theorem pm_d0 {α : Type} (B l P : List α) (ix iy : List Nat) (h : (List.range l.length).isPerm (ix ++ iy) = true) : (B ++ (l ++ P)).Perm ((B ++ ix.filterMap (fun i => l[i]?)) ++ (P ++ iy.filterMap (fun i => l[i]?))) := by
  refine (pm_dB B l P ix iy h).trans ?_
  rw [← List.append_assoc B, List.append_assoc (B ++ _)]
theorem DW_thr {X : xT} {d : Nat} {m : MV} {w : va_W} {c : Int32} (h : DW X d m w) : DW X d (up m 0 0 c) w := DW_fr h (fun a j ha => up_ne (by omega)) rfl
theorem D_ribbonLeft {X : xT} {d : Nat} {m : MV} {w : va_W} (h : DW X d m w) : MetX X yX1_ribbonLeft (.code yX1_ribbonLeft cX1_ribbonLeft 1 (some .int)) (rmC 12 2 12) 2 12 [.ref d] w (rdQ X d (p_ribbonLeft m)) (rdT X d ex0 (p_ribbonLeft m)) := by
  obtain ⟨c, hc⟩ : ∃ c, (p_ribbonLeft m).2 = up m 0 0 c := by unfold p_ribbonLeft; repeat' (first | exact ⟨_, rfl⟩ | split)
  have hD : DW X d (p_ribbonLeft m).2 w := by rw [hc]; exact DW_thr h
  obtain ⟨ad, dv, sg, v, b, rl, bg, f, fp, fa, mc_, ml, vf, ba, bn, L, l, S, J, rfl, hp, hI⟩ := h
  exact rd_lift (wr := ((c9 X m ad f fp fa mc_ ml vf l.length) ++ (roW X ad b rl bg ++ (paW X (ad 100) S ++ J)))) hD (w_DribbonLeft X ad dv sg (roO ad b) v m hI.h113 hI.rs hI.bd) hp
theorem D_lastShift {X : xT} {d : Nat} {m : MV} {w : va_W} (h : DW X d m w) : MetX X yX1_lastShift (.code yX1_lastShift cX1_lastShift 1 (some .int)) (rmC 12 2 12) 2 12 [.ref d] w (rdQ X d (p_lastShift m)) (rdT X d ex0 (p_lastShift m)) := by
  obtain ⟨c, hc⟩ : ∃ c, (p_lastShift m).2 = up m 0 0 c := by unfold p_lastShift; repeat' (first | exact ⟨_, rfl⟩ | split)
  have hD : DW X d (p_lastShift m).2 w := by rw [hc]; exact DW_thr h
  obtain ⟨ad, dv, sg, v, b, rl, bg, f, fp, fa, mc_, ml, vf, ba, bn, L, l, S, J, rfl, hp, hI⟩ := h
  exact rd_lift (wr := ((c9 X m ad f fp fa mc_ ml vf l.length) ++ (roW X ad b rl bg ++ (paW X (ad 100) S ++ J)))) hD (w_DlastShift X ad dv sg (roO ad b) v m hI.h113 hI.rs hI.bd) hp
theorem D_logCount {X : xT} {d : Nat} {m : MV} {w : va_W} (h : DW X d m w) : MetX X yX1_logCount (.code yX1_logCount cX1_logCount 1 (some .int)) (rmC 12 2 12) 2 12 [.ref d] w (rdQ X d (p_logCount m)) (rdT X d ex0 (p_logCount m)) := by
  obtain ⟨c, hc⟩ : ∃ c, (p_logCount m).2 = up m 0 0 c := by unfold p_logCount; repeat' (first | exact ⟨_, rfl⟩ | split)
  have hD : DW X d (p_logCount m).2 w := by rw [hc]; exact DW_thr h
  obtain ⟨ad, dv, sg, v, b, rl, bg, f, fp, fa, mc_, ml, vf, ba, bn, L, l, S, J, rfl, hp, hI⟩ := h
  exact rd_lift (wr := ((c9 X m ad f fp fa mc_ ml vf l.length) ++ (roW X ad b rl bg ++ (paW X (ad 100) S ++ J)))) hD (w_DlogCount X ad dv sg (roO ad b) v m hI.h113 hI.rs hI.bd) hp
theorem D_trouble {X : xT} {d : Nat} {m : MV} {w : va_W} (h : DW X d m w) : MetX X yX1_trouble (.code yX1_trouble cX1_trouble 1 (some .int)) (rmC 12 2 12) 2 12 [.ref d] w (rdQ X d (p_trouble m)) (rdT X d ex0 (p_trouble m)) := by
  obtain ⟨c, hc⟩ : ∃ c, (p_trouble m).2 = up m 0 0 c := by unfold p_trouble; repeat' (first | exact ⟨_, rfl⟩ | split)
  have hD : DW X d (p_trouble m).2 w := by rw [hc]; exact DW_thr h
  obtain ⟨ad, dv, sg, v, b, rl, bg, f, fp, fa, mc_, ml, vf, ba, bn, L, l, S, J, rfl, hp, hI⟩ := h
  exact rd_lift (wr := ((c9 X m ad f fp fa mc_ ml vf l.length) ++ (roW X ad b rl bg ++ (paW X (ad 100) S ++ J)))) hD (w_Dtrouble X ad dv sg (roO ad b) v m hI.h113 hI.rs hI.bd) hp
theorem D_causeOfTrouble {X : xT} {d : Nat} {m : MV} {w : va_W} (h : DW X d m w) : MetX X yX1_causeOfTrouble (.code yX1_causeOfTrouble cX1_causeOfTrouble 1 (some .int)) (rmC 12 2 12) 2 12 [.ref d] w (rdQ X d (p_causeOfTrouble m)) (rdT X d ex0 (p_causeOfTrouble m)) := by
  obtain ⟨c, hc⟩ : ∃ c, (p_causeOfTrouble m).2 = up m 0 0 c := by unfold p_causeOfTrouble; repeat' (first | exact ⟨_, rfl⟩ | split)
  have hD : DW X d (p_causeOfTrouble m).2 w := by rw [hc]; exact DW_thr h
  obtain ⟨ad, dv, sg, v, b, rl, bg, f, fp, fa, mc_, ml, vf, ba, bn, L, l, S, J, rfl, hp, hI⟩ := h
  exact rd_lift (wr := ((c9 X m ad f fp fa mc_ ml vf l.length) ++ (roW X ad b rl bg ++ (paW X (ad 100) S ++ J)))) hD (w_DcauseOfTrouble X ad dv sg (roO ad b) v m hI.h113 hI.rs hI.bd) hp
theorem D_isReady {X : xT} {d : Nat} {m : MV} {w : va_W} (h : DW X d m w) : MetX X yX1_isReady (.code yX1_isReady cX1_isReady 1 (some .boolean)) (rmC 12 2 12) 2 12 [.ref d] w (rdQ X d (p_isReady m)) (rdT X d ex0 (p_isReady m)) := by
  obtain ⟨c, hc⟩ : ∃ c, (p_isReady m).2 = up m 0 0 c := by unfold p_isReady; repeat' (first | exact ⟨_, rfl⟩ | split)
  have hD : DW X d (p_isReady m).2 w := by rw [hc]; exact DW_thr h
  obtain ⟨ad, dv, sg, v, b, rl, bg, f, fp, fa, mc_, ml, vf, ba, bn, L, l, S, J, rfl, hp, hI⟩ := h
  exact rd_lift (wr := ((c9 X m ad f fp fa mc_ ml vf l.length) ++ (roW X ad b rl bg ++ (paW X (ad 100) S ++ J)))) hD (w_DisReady X ad dv sg (roO ad b) v m hI.h113 hI.rs hI.bd) hp
theorem D_errorOffset {X : xT} {d : Nat} {m : MV} {w : va_W} (h : DW X d m w) : MetX X yX1_errorOffset (.code yX1_errorOffset cX1_errorOffset 1 (some .int)) (rmC 12 2 12) 2 12 [.ref d] w (rdQ X d (p_errorOffset m)) (rdT X d ex0 (p_errorOffset m)) := by
  obtain ⟨c, hc⟩ : ∃ c, (p_errorOffset m).2 = up m 0 0 c := by unfold p_errorOffset; repeat' (first | exact ⟨_, rfl⟩ | split)
  have hD : DW X d (p_errorOffset m).2 w := by rw [hc]; exact DW_thr h
  obtain ⟨ad, dv, sg, v, b, rl, bg, f, fp, fa, mc_, ml, vf, ba, bn, L, l, S, J, rfl, hp, hI⟩ := h
  exact rd_lift (wr := ((c9 X m ad f fp fa mc_ ml vf l.length) ++ (roW X ad b rl bg ++ (paW X (ad 100) S ++ J)))) hD (w_DerrorOffset X ad dv sg (roO ad b) v m hI.h113 hI.rs hI.bd hI.ix.1.2.2.1) hp
theorem D_errorKind {X : xT} {d : Nat} {m : MV} {w : va_W} (h : DW X d m w) : MetX X yX1_errorKind (.code yX1_errorKind cX1_errorKind 1 (some .int)) (rmC 12 2 12) 2 12 [.ref d] w (rdQ X d (p_errorKind m)) (rdT X d ex0 (p_errorKind m)) := by
  obtain ⟨c, hc⟩ : ∃ c, (p_errorKind m).2 = up m 0 0 c := by unfold p_errorKind; repeat' (first | exact ⟨_, rfl⟩ | split)
  have hD : DW X d (p_errorKind m).2 w := by rw [hc]; exact DW_thr h
  obtain ⟨ad, dv, sg, v, b, rl, bg, f, fp, fa, mc_, ml, vf, ba, bn, L, l, S, J, rfl, hp, hI⟩ := h
  exact rd_lift (wr := ((c9 X m ad f fp fa mc_ ml vf l.length) ++ (roW X ad b rl bg ++ (paW X (ad 100) S ++ J)))) hD (w_DerrorKind X ad dv sg (roO ad b) v m hI.h113 hI.rs hI.bd hI.ix.1.2.2.2.1) hp
theorem D_position {X : xT} {d : Nat} {m : MV} {w : va_W} (h : DW X d m w) : MetX X yX1_position (.code yX1_position cX1_position 1 (some .int)) (rmC 12 2 12) 2 12 [.ref d] w (rdQ X d (p_position m)) (rdT X d exS (p_position m)) := by
  obtain ⟨c, hc⟩ : ∃ c, (p_position m).2 = up m 0 0 c := by unfold p_position; repeat' (first | exact ⟨_, rfl⟩ | split)
  have hD : DW X d (p_position m).2 w := by rw [hc]; exact DW_thr h
  obtain ⟨ad, dv, sg, v, b, rl, bg, f, fp, fa, mc_, ml, vf, ba, bn, L, l, S, J, rfl, hp, hI⟩ := h
  cases b with
  | false => exact rd_lift (wr := ((c9 X m ad f fp fa mc_ ml vf l.length) ++ (roW X ad false rl bg ++ (paW X (ad 100) S ++ J)))) hD (w_Dposition_n X ad dv sg v m hI.h113 hI.rs hI.bd (hI.nm rfl) (hI.nr rfl)) hp
  | true => exact rd_lift hD (w_Dposition_s X ad dv sg rl bg v m hI.h113 hI.rs hI.bd (hI.mo rfl) (hI.cx rfl)) (hp.trans (pmR (bW X ad dv sg (some (ad 120)) v []) (c9 X m ad f fp fa mc_ ml vf l.length) (rW X ad rl bg []) (paW X (ad 100) S ++ J)))
theorem D_webEnd {X : xT} {d : Nat} {m : MV} {w : va_W} (h : DW X d m w) : MetX X yX1_webEnd (.code yX1_webEnd cX1_webEnd 1 (some .int)) (rmC 12 2 12) 2 12 [.ref d] w (rdQ X d (p_webEnd m)) (rdT X d exS (p_webEnd m)) := by
  obtain ⟨c, hc⟩ : ∃ c, (p_webEnd m).2 = up m 0 0 c := by unfold p_webEnd; repeat' (first | exact ⟨_, rfl⟩ | split)
  have hD : DW X d (p_webEnd m).2 w := by rw [hc]; exact DW_thr h
  obtain ⟨ad, dv, sg, v, b, rl, bg, f, fp, fa, mc_, ml, vf, ba, bn, L, l, S, J, rfl, hp, hI⟩ := h
  cases b with
  | false => exact rd_lift (wr := ((c9 X m ad f fp fa mc_ ml vf l.length) ++ (roW X ad false rl bg ++ (paW X (ad 100) S ++ J)))) hD (w_DwebEnd_n X ad dv sg v m hI.h113 hI.rs hI.bd (hI.nm rfl) (hI.nr rfl)) hp
  | true => exact rd_lift hD (w_DwebEnd_s X ad dv sg rl bg v m hI.h113 hI.rs hI.bd (hI.mo rfl) (hI.cx rfl)) (hp.trans (pmR (bW X ad dv sg (some (ad 120)) v []) (c9 X m ad f fp fa mc_ ml vf l.length) (rW X ad rl bg []) (paW X (ad 100) S ++ J)))
theorem D_seenTo {X : xT} {d : Nat} {m : MV} {w : va_W} (h : DW X d m w) : MetX X yX1_seenTo (.code yX1_seenTo cX1_seenTo 1 (some .int)) (rmC 12 2 12) 2 12 [.ref d] w (rdQ X d (p_seenTo m)) (rdT X d exS (p_seenTo m)) := by
  obtain ⟨c, hc⟩ : ∃ c, (p_seenTo m).2 = up m 0 0 c := by unfold p_seenTo; repeat' (first | exact ⟨_, rfl⟩ | split)
  have hD : DW X d (p_seenTo m).2 w := by rw [hc]; exact DW_thr h
  obtain ⟨ad, dv, sg, v, b, rl, bg, f, fp, fa, mc_, ml, vf, ba, bn, L, l, S, J, rfl, hp, hI⟩ := h
  cases b with
  | false => exact rd_lift (wr := ((c9 X m ad f fp fa mc_ ml vf l.length) ++ (roW X ad false rl bg ++ (paW X (ad 100) S ++ J)))) hD (w_DseenTo_n X ad dv sg v m hI.h113 hI.rs hI.bd (hI.nm rfl) (hI.nr rfl)) hp
  | true => exact rd_lift hD (w_DseenTo_s X ad dv sg rl bg v m hI.h113 hI.rs hI.bd (hI.mo rfl) (hI.cx rfl)) (hp.trans (pmR (bW X ad dv sg (some (ad 120)) v []) (c9 X m ad f fp fa mc_ ml vf l.length) (rW X ad rl bg []) (paW X (ad 100) S ++ J)))
theorem D_lightAt {X : xT} {d : Nat} {m : MV} {w : va_W} (a1 : Int32) (h : DW X d m w) : MetX X yX1_lightAt (.code yX1_lightAt cX1_lightAt 2 (some .int)) (rmC 12 2 12) 2 12 [.ref d, .int a1] w (rdQ X d (p_lightAt m a1)) (rdT X d exS (p_lightAt m a1)) := by
  obtain ⟨c, hc⟩ : ∃ c, (p_lightAt m a1).2 = up m 0 0 c := by unfold p_lightAt; repeat' (first | exact ⟨_, rfl⟩ | split)
  have hD : DW X d (p_lightAt m a1).2 w := by rw [hc]; exact DW_thr h
  obtain ⟨ad, dv, sg, v, b, rl, bg, f, fp, fa, mc_, ml, vf, ba, bn, L, l, S, J, rfl, hp, hI⟩ := h
  cases b with
  | false => exact rd_lift (wr := ((c9 X m ad f fp fa mc_ ml vf l.length) ++ (roW X ad false rl bg ++ (paW X (ad 100) S ++ J)))) hD (w_DlightAt_n X ad dv sg v m a1 hI.h113 hI.rs hI.bd (hI.nm rfl) (hI.nr rfl)) hp
  | true => exact rd_lift hD (w_DlightAt_s X ad dv sg rl bg v m a1 hI.h113 hI.rs hI.bd (hI.mo rfl) (hI.cx rfl)) (hp.trans (pmR (bW X ad dv sg (some (ad 120)) v []) (c9 X m ad f fp fa mc_ ml vf l.length) (rW X ad rl bg []) (paW X (ad 100) S ++ J)))
theorem D_labelUnderHead {X : xT} {d : Nat} {m : MV} {w : va_W} (h : DW X d m w) : MetX X yX1_labelUnderHead (.code yX1_labelUnderHead cX1_labelUnderHead 1 (some .int)) (rmC 12 2 12) 2 12 [.ref d] w (rdQ X d (p_labelUnderHead m)) (rdT X d exS (p_labelUnderHead m)) := by
  obtain ⟨c, hc⟩ : ∃ c, (p_labelUnderHead m).2 = up m 0 0 c := by unfold p_labelUnderHead; repeat' (first | exact ⟨_, rfl⟩ | split)
  have hD : DW X d (p_labelUnderHead m).2 w := by rw [hc]; exact DW_thr h
  obtain ⟨ad, dv, sg, v, b, rl, bg, f, fp, fa, mc_, ml, vf, ba, bn, L, l, S, J, rfl, hp, hI⟩ := h
  cases b with
  | false => exact rd_lift (wr := ((c9 X m ad f fp fa mc_ ml vf l.length) ++ (roW X ad false rl bg ++ (paW X (ad 100) S ++ J)))) hD (w_DlabelUnderHead_n X ad dv sg v m hI.h113 hI.rs hI.bd (hI.nm rfl) (hI.nr rfl)) hp
  | true => exact rd_lift hD (w_DlabelUnderHead_s X ad dv sg rl bg v m hI.h113 hI.rs hI.bd (hI.mo rfl) (hI.cx rfl)) (hp.trans (pmR (bW X ad dv sg (some (ad 120)) v []) (c9 X m ad f fp fa mc_ ml vf l.length) (rW X ad rl bg []) (paW X (ad 100) S ++ J)))
theorem D_learned {X : xT} {d : Nat} {m : MV} {w : va_W} (a1 : Int32) (h : DW X d m w) : MetX X yX1_learned (.code yX1_learned cX1_learned 2 (some .int)) (rmC 12 2 12) 2 12 [.ref d, .int a1] w (rdQ X d (p_learned m a1)) (rdT X d (ex2 exS exE) (p_learned m a1)) := by
  obtain ⟨c, hc⟩ : ∃ c, (p_learned m a1).2 = up m 0 0 c := by unfold p_learned; repeat' (first | exact ⟨_, rfl⟩ | split)
  have hD : DW X d (p_learned m a1).2 w := by rw [hc]; exact DW_thr h
  obtain ⟨ad, dv, sg, v, b, rl, bg, f, fp, fa, mc_, ml, vf, ba, bn, L, l, S, J, rfl, hp, hI⟩ := h
  cases b with
  | false => exact rd_lift (wr := ((c9 X m ad f fp fa mc_ ml vf l.length) ++ (roW X ad false rl bg ++ (paW X (ad 100) S ++ J)))) hD (w_Dlearned_n X ad dv sg v m a1 hI.h113 hI.rs hI.bd (hI.nm rfl) (hI.nr rfl)) hp
  | true => exact rd_lift hD (w_Dlearned_s X ad dv sg rl bg v m a1 hI.h113 hI.rs hI.bd (hI.mo rfl) (hI.cx rfl)) (hp.trans (pmR (bW X ad dv sg (some (ad 120)) v []) (c9 X m ad f fp fa mc_ ml vf l.length) (rW X ad rl bg []) (paW X (ad 100) S ++ J)))
theorem D_backfeed {X : xT} {d : Nat} {m : MV} {w : va_W} (h : DW X d m w) : MetX X yX1_backfeed (.code yX1_backfeed cX1_backfeed 1 (some .int)) (rmC 12 2 12) 2 12 [.ref d] w (rdQ X d (p_backfeed m)) (rdT X d exS (p_backfeed m)) := by
  obtain ⟨c, hc⟩ : ∃ c, (p_backfeed m).2 = up m 0 0 c := by unfold p_backfeed; repeat' (first | exact ⟨_, rfl⟩ | split)
  have hD : DW X d (p_backfeed m).2 w := by rw [hc]; exact DW_thr h
  obtain ⟨ad, dv, sg, v, b, rl, bg, f, fp, fa, mc_, ml, vf, ba, bn, L, l, S, J, rfl, hp, hI⟩ := h
  cases b with
  | false => exact rd_lift (wr := ((c9 X m ad f fp fa mc_ ml vf l.length) ++ (roW X ad false rl bg ++ (paW X (ad 100) S ++ J)))) hD (w_Dbackfeed_n X ad dv sg v m hI.h113 hI.rs hI.bd (hI.nm rfl) (hI.nr rfl)) hp
  | true => exact rd_lift hD (w_Dbackfeed_s X ad dv sg rl bg v m hI.h113 hI.rs hI.bd (hI.mo rfl) (hI.cx rfl)) (hp.trans (pmR (bW X ad dv sg (some (ad 120)) v []) (c9 X m ad f fp fa mc_ ml vf l.length) (rW X ad rl bg []) (paW X (ad 100) S ++ J)))
theorem D_tearPlace {X : xT} {d : Nat} {m : MV} {w : va_W} (h : DW X d m w) : MetX X yX1_tearPlace (.code yX1_tearPlace cX1_tearPlace 1 (some .int)) (rmC 12 2 12) 2 12 [.ref d] w (rdQ X d (p_tearPlace m)) (rdT X d exS (p_tearPlace m)) := by
  obtain ⟨c, hc⟩ : ∃ c, (p_tearPlace m).2 = up m 0 0 c := by unfold p_tearPlace; repeat' (first | exact ⟨_, rfl⟩ | split)
  have hD : DW X d (p_tearPlace m).2 w := by rw [hc]; exact DW_thr h
  obtain ⟨ad, dv, sg, v, b, rl, bg, f, fp, fa, mc_, ml, vf, ba, bn, L, l, S, J, rfl, hp, hI⟩ := h
  cases b with
  | false => exact rd_lift (wr := ((c9 X m ad f fp fa mc_ ml vf l.length) ++ (roW X ad false rl bg ++ (paW X (ad 100) S ++ J)))) hD (w_DtearPlace_n X ad dv sg v m hI.h113 hI.rs hI.bd (hI.nm rfl) (hI.nr rfl)) hp
  | true => exact rd_lift hD (w_DtearPlace_s X ad dv sg rl bg v m hI.h113 hI.rs hI.bd (hI.mo rfl) (hI.cx rfl)) (hp.trans (pmR (bW X ad dv sg (some (ad 120)) v []) (c9 X m ad f fp fa mc_ ml vf l.length) (rW X ad rl bg []) (paW X (ad 100) S ++ J)))
theorem D_total {X : xT} {d : Nat} {m : MV} {w : va_W} (a1 : Int32) (h : DW X d m w) : MetX X yX1_total (.code yX1_total cX1_total 2 (some .int)) (rmC 12 2 12) 2 12 [.ref d, .int a1] w (rdQ X d (p_total m a1)) (rdT X d exE (p_total m a1)) := by
  obtain ⟨c, hc⟩ : ∃ c, (p_total m a1).2 = up m 0 0 c := by unfold p_total; repeat' (first | exact ⟨_, rfl⟩ | split)
  have hD : DW X d (p_total m a1).2 w := by rw [hc]; exact DW_thr h
  obtain ⟨ad, dv, sg, v, b, rl, bg, f, fp, fa, mc_, ml, vf, ba, bn, L, l, S, J, rfl, hp, hI⟩ := h
  exact rd_lift (wr := ((c9 X m ad f fp fa mc_ ml vf l.length) ++ (roW X ad b rl bg ++ (paW X (ad 100) S ++ J)))) hD (w_Dtotal X ad dv sg (roO ad b) v m a1 hI.h113 hI.rs hI.bd) hp
theorem D_yieldPercent {X : xT} {d : Nat} {m : MV} {w : va_W} (h : DW X d m w) : MetX X yX1_yieldPercent (.code yX1_yieldPercent cX1_yieldPercent 1 (some .int)) (rmC 12 2 12) 2 12 [.ref d] w (rdQ X d (p_yieldPercent m)) (rdT X d ex0 (p_yieldPercent m)) := by
  obtain ⟨c, hc⟩ : ∃ c, (p_yieldPercent m).2 = up m 0 0 c := by unfold p_yieldPercent; repeat' (first | exact ⟨_, rfl⟩ | split)
  have hD : DW X d (p_yieldPercent m).2 w := by rw [hc]; exact DW_thr h
  obtain ⟨ad, dv, sg, v, b, rl, bg, f, fp, fa, mc_, ml, vf, ba, bn, L, l, S, J, rfl, hp, hI⟩ := h
  exact rd_lift (wr := ((c9 X m ad f fp fa mc_ ml vf l.length) ++ (roW X ad b rl bg ++ (paW X (ad 100) S ++ J)))) hD (w_DyieldPercent X ad dv sg (roO ad b) v m hI.h113 hI.rs hI.bd) hp
theorem D_ribbonLasts {X : xT} {d : Nat} {m : MV} {w : va_W} (h : DW X d m w) : MetX X yX1_ribbonLasts (.code yX1_ribbonLasts cX1_ribbonLasts 2 (some .int)) (rmC 12 2 12) 2 12 [.ref d] w (rdQ X d (p_ribbonLasts m)) (rdT X d exS (p_ribbonLasts m)) := by
  obtain ⟨c, hc⟩ : ∃ c, (p_ribbonLasts m).2 = up m 0 0 c := by unfold p_ribbonLasts; repeat' (first | exact ⟨_, rfl⟩ | split)
  have hD : DW X d (p_ribbonLasts m).2 w := by rw [hc]; exact DW_thr h
  obtain ⟨ad, dv, sg, v, b, rl, bg, f, fp, fa, mc_, ml, vf, ba, bn, L, l, S, J, rfl, hp, hI⟩ := h
  cases b with
  | false => exact rd_lift (wr := ((c9 X m ad f fp fa mc_ ml vf l.length) ++ (roW X ad false rl bg ++ (paW X (ad 100) S ++ J)))) hD (w_DribbonLasts_n X ad dv sg v m hI.h113 hI.rs hI.bd (hI.nm rfl) (hI.nr rfl)) hp
  | true => exact rd_lift hD (w_DribbonLasts_s X ad dv sg rl bg v m hI.h113 hI.rs hI.bd (hI.mo rfl) (hI.cx rfl)) (hp.trans (pmR (bW X ad dv sg (some (ad 120)) v []) (c9 X m ad f fp fa mc_ ml vf l.length) (rW X ad rl bg []) (paW X (ad 100) S ++ J)))
theorem D_webLasts {X : xT} {d : Nat} {m : MV} {w : va_W} (h : DW X d m w) : MetX X yX1_webLasts (.code yX1_webLasts cX1_webLasts 1 (some .int)) (rmC 12 3 15) 3 15 [.ref d] w (rdQ X d (p_webLasts m)) (rdT X d exS (p_webLasts m)) := by
  obtain ⟨c, hc⟩ : ∃ c, (p_webLasts m).2 = up m 0 0 c := by unfold p_webLasts; repeat' (first | exact ⟨_, rfl⟩ | split)
  have hD : DW X d (p_webLasts m).2 w := by rw [hc]; exact DW_thr h
  obtain ⟨ad, dv, sg, v, b, rl, bg, f, fp, fa, mc_, ml, vf, ba, bn, L, l, S, J, rfl, hp, hI⟩ := h
  cases b with
  | false => exact rd_lift (wr := ((c9 X m ad f fp fa mc_ ml vf l.length) ++ (roW X ad false rl bg ++ (paW X (ad 100) S ++ J)))) hD (w_DwebLasts_n X ad dv sg v m hI.h113 hI.rs hI.bd (hI.nm rfl) (hI.nr rfl) (fun z9 => hI.pi ((hI.bd.2.2.2.2.2.2.1).resolve_left (fun z8 => z9 ((hI.rs.g 9 0 (by decide)).trans z8))))) hp
  | true => exact rd_lift hD (w_DwebLasts_s X ad dv sg rl bg v m hI.h113 hI.rs hI.bd (hI.mo rfl) (hI.cx rfl) (fun z9 => hI.pi ((hI.bd.2.2.2.2.2.2.1).resolve_left (fun z8 => z9 ((hI.rs.g 9 0 (by decide)).trans z8))))) (hp.trans (pmR (bW X ad dv sg (some (ad 120)) v []) (c9 X m ad f fp fa mc_ ml vf l.length) (rW X ad rl bg []) (paW X (ad 100) S ++ J)))
theorem D_logField {X : xT} {d : Nat} {m : MV} {w : va_W} (a1 : Int32) (a2 : Int32) (h : DW X d m w) : MetX X yX1_logField (.code yX1_logField cX1_logField 3 (some .int)) (rmC 12 2 12) 2 12 [.ref d, .int a1, .int a2] w (rdQ X d (p_logField m a1 a2)) (rdT X d exE (p_logField m a1 a2)) := by
  obtain ⟨c, hc⟩ : ∃ c, (p_logField m a1 a2).2 = up m 0 0 c := by unfold p_logField; repeat' (first | exact ⟨_, rfl⟩ | split)
  have hD : DW X d (p_logField m a1 a2).2 w := by rw [hc]; exact DW_thr h
  obtain ⟨ad, dv, sg, v, b, rl, bg, f, fp, fa, mc_, ml, vf, ba, bn, L, l, S, J, rfl, hp, hI⟩ := h
  exact rd_lift (wr := ((c9 X m ad f fp fa mc_ ml vf l.length) ++ (roW X ad b rl bg ++ (paW X (ad 100) S ++ J)))) hD (w_DlogField X ad dv sg (roO ad b) v m a1 a2 hI.h113 hI.rs hI.bd) hp
theorem D_printingAt {X : xT} {d : Nat} {m : MV} {w : va_W} (a1 : Int32) (h : DW X d m w) : MetX X yX1_printingAt (.code yX1_printingAt cX1_printingAt 3 (some .int)) (rmC 12 2 12) 2 12 [.ref d, .int a1] w (rdQ X d (p_printingAt m a1)) (rdT X d ex0 (p_printingAt m a1)) := by
  obtain ⟨c, hc⟩ : ∃ c, (p_printingAt m a1).2 = up m 0 0 c := by unfold p_printingAt; repeat' (first | exact ⟨_, rfl⟩ | split)
  have hD : DW X d (p_printingAt m a1).2 w := by rw [hc]; exact DW_thr h
  obtain ⟨ad, dv, sg, v, b, rl, bg, f, fp, fa, mc_, ml, vf, ba, bn, L, l, S, J, rfl, hp, hI⟩ := h
  exact rd_lift (wr := ((c9 X m ad f fp fa mc_ ml vf l.length) ++ (roW X ad b rl bg ++ (paW X (ad 100) S ++ J)))) hD (w_DprintingAt X ad dv sg (roO ad b) v m a1 hI.h113 hI.rs hI.bd) hp
theorem D_batchField {X : xT} {d : Nat} {m : MV} {w : va_W} (a1 : Int32) (a2 : Int32) (h : DW X d m w) : MetX X yX1_batchField (.code yX1_batchField cX1_batchField 4 (some .int)) (rmC 12 2 12) 2 12 [.ref d, .int a1, .int a2] w (rdQ X d (p_batchField m a1 a2)) (rdT X d (ex2 exI exE) (p_batchField m a1 a2)) := by
  obtain ⟨c, hc⟩ : ∃ c, (p_batchField m a1 a2).2 = up m 0 0 c := by unfold p_batchField; repeat' (first | exact ⟨_, rfl⟩ | split)
  have hD : DW X d (p_batchField m a1 a2).2 w := by rw [hc]; exact DW_thr h
  obtain ⟨ad, dv, sg, v, b, rl, bg, f, fp, fa, mc_, ml, vf, ba, bn, L, l, S, J, rfl, hp, hI⟩ := h
  exact rd_lift hD (w_DbatchField X ad dv sg (roO ad b) v m (ad 144) (ad 145) mc_ fa ba bn (roW X ad b rl bg ++ (paW X (ad 100) S ++ J)) a1 a2 hI.h113 hI.rs hI.bd (baP_sub hI.bp (fun c hc => List.mem_append_right _ (List.mem_append_right _ hc))) hI.bo hI.ca hI.ca2) (hp.trans (pm_dB (bW X ad dv sg (roO ad b) v []) (c9 X m ad f fp fa mc_ ml vf l.length) (roW X ad b rl bg ++ (paW X (ad 100) S ++ J)) [4, 5] [0, 1, 2, 3, 6, 7, 8] rfl))
theorem D_number {X : xT} {d : Nat} {m : MV} {w : va_W} (a1 : Int32) (a2 : Int32) (h : DW X d m w) : MetX X yX1_number (.code yX1_number cX1_number 3 (some .int)) (rmC 12 3 18) 3 18 [.ref d, .int a1, .int a2] w (rdQ X d (p_number m a1 a2)) (rdT X d exI (p_number m a1 a2)) := by
  obtain ⟨c, hc⟩ : ∃ c, (p_number m a1 a2).2 = up m 0 0 c := by unfold p_number; repeat' (first | exact ⟨_, rfl⟩ | split)
  have hD : DW X d (p_number m a1 a2).2 w := by rw [hc]; exact DW_thr h
  obtain ⟨ad, dv, sg, v, b, rl, bg, f, fp, fa, mc_, ml, vf, ba, bn, L, l, S, J, rfl, hp, hI⟩ := h
  exact rd_lift hD (w_Dnumber X ad dv sg (roO ad b) v m (ad 144) (ad 145) mc_ fa ba bn (roW X ad b rl bg ++ (paW X (ad 100) S ++ J)) a1 a2 hI.h113 hI.rs hI.bd (baP_sub hI.bp (fun c hc => List.mem_append_right _ (List.mem_append_right _ hc))) hI.bo hI.ca hI.ca2) (hp.trans (pm_dB (bW X ad dv sg (roO ad b) v []) (c9 X m ad f fp fa mc_ ml vf l.length) (roW X ad b rl bg ++ (paW X (ad 100) S ++ J)) [4, 5] [0, 1, 2, 3, 6, 7, 8] rfl))
theorem D_checkDigit {X : xT} {d : Nat} {m : MV} {w : va_W} (a1 : Int32) (a2 : Int32) (h : DW X d m w) : MetX X yX1_checkDigit (.code yX1_checkDigit cX1_checkDigit 3 (some .int)) (rmC 12 3 18) 3 18 [.ref d, .int a1, .int a2] w (rdQ X d (p_checkDigit m a1 a2)) (rdT X d exI (p_checkDigit m a1 a2)) := by
  obtain ⟨c, hc⟩ : ∃ c, (p_checkDigit m a1 a2).2 = up m 0 0 c := by unfold p_checkDigit; repeat' (first | exact ⟨_, rfl⟩ | split)
  have hD : DW X d (p_checkDigit m a1 a2).2 w := by rw [hc]; exact DW_thr h
  obtain ⟨ad, dv, sg, v, b, rl, bg, f, fp, fa, mc_, ml, vf, ba, bn, L, l, S, J, rfl, hp, hI⟩ := h
  exact rd_lift hD (w_DcheckDigit X ad dv sg (roO ad b) v m (ad 144) (ad 145) mc_ fa ba bn (roW X ad b rl bg ++ (paW X (ad 100) S ++ J)) a1 a2 hI.h113 hI.rs hI.bd (baP_sub hI.bp (fun c hc => List.mem_append_right _ (List.mem_append_right _ hc))) hI.bo hI.ca hI.ca2) (hp.trans (pm_dB (bW X ad dv sg (roO ad b) v []) (c9 X m ad f fp fa mc_ ml vf l.length) (roW X ad b rl bg ++ (paW X (ad 100) S ++ J)) [4, 5] [0, 1, 2, 3, 6, 7, 8] rfl))
theorem D_stateOf {X : xT} {d : Nat} {m : MV} {w : va_W} (a1 : Int32) (a2 : Int32) (h : DW X d m w) : MetX X yX1_stateOf (.code yX1_stateOf cX1_stateOf 3 (some .int)) (rmC 12 2 12) 2 12 [.ref d, .int a1, .int a2] w (rdQ X d (p_stateOf m a1 a2)) (rdT X d exI (p_stateOf m a1 a2)) := by
  obtain ⟨c, hc⟩ : ∃ c, (p_stateOf m a1 a2).2 = up m 0 0 c := by unfold p_stateOf; repeat' (first | exact ⟨_, rfl⟩ | split)
  have hD : DW X d (p_stateOf m a1 a2).2 w := by rw [hc]; exact DW_thr h
  obtain ⟨ad, dv, sg, v, b, rl, bg, f, fp, fa, mc_, ml, vf, ba, bn, L, l, S, J, rfl, hp, hI⟩ := h
  exact rd_lift hD (w_DstateOf X ad dv sg (roO ad b) v m (ad 144) (ad 145) mc_ fa ba bn (roW X ad b rl bg ++ (paW X (ad 100) S ++ J)) a1 a2 hI.h113 hI.rs hI.bd (baP_sub hI.bp (fun c hc => List.mem_append_right _ (List.mem_append_right _ hc))) hI.bo hI.ca hI.ca2) (hp.trans (pm_dB (bW X ad dv sg (roO ad b) v []) (c9 X m ad f fp fa mc_ ml vf l.length) (roW X ad b rl bg ++ (paW X (ad 100) S ++ J)) [4, 5] [0, 1, 2, 3, 6, 7, 8] rfl))
theorem D_attempts {X : xT} {d : Nat} {m : MV} {w : va_W} (a1 : Int32) (a2 : Int32) (h : DW X d m w) : MetX X yX1_attempts (.code yX1_attempts cX1_attempts 3 (some .int)) (rmC 12 2 12) 2 12 [.ref d, .int a1, .int a2] w (rdQ X d (p_attempts m a1 a2)) (rdT X d exI (p_attempts m a1 a2)) := by
  obtain ⟨c, hc⟩ : ∃ c, (p_attempts m a1 a2).2 = up m 0 0 c := by unfold p_attempts; repeat' (first | exact ⟨_, rfl⟩ | split)
  have hD : DW X d (p_attempts m a1 a2).2 w := by rw [hc]; exact DW_thr h
  obtain ⟨ad, dv, sg, v, b, rl, bg, f, fp, fa, mc_, ml, vf, ba, bn, L, l, S, J, rfl, hp, hI⟩ := h
  exact rd_lift hD (w_Dattempts X ad dv sg (roO ad b) v m (ad 144) (ad 145) mc_ fa ba bn (roW X ad b rl bg ++ (paW X (ad 100) S ++ J)) a1 a2 hI.h113 hI.rs hI.bd (baP_sub hI.bp (fun c hc => List.mem_append_right _ (List.mem_append_right _ hc))) hI.bo hI.ca hI.ca2) (hp.trans (pm_dB (bW X ad dv sg (roO ad b) v []) (c9 X m ad f fp fa mc_ ml vf l.length) (roW X ad b rl bg ++ (paW X (ad 100) S ++ J)) [4, 5] [0, 1, 2, 3, 6, 7, 8] rfl))
theorem D_countOf {X : xT} {d : Nat} {m : MV} {w : va_W} (a1 : Int32) (a2 : Int32) (h : DW X d m w) : MetX X yX1_countOf (.code yX1_countOf cX1_countOf 3 (some .int)) (rmC 12 43 258) 43 258 [.ref d, .int a1, .int a2] w (rdQ X d (p_countOf m a1 a2)) (rdT X d (ex2 exI exA) (p_countOf m a1 a2)) := by
  obtain ⟨c, hc⟩ : ∃ c, (p_countOf m a1 a2).2 = up m 0 0 c := by unfold p_countOf; repeat' (first | exact ⟨_, rfl⟩ | split)
  have hD : DW X d (p_countOf m a1 a2).2 w := by rw [hc]; exact DW_thr h
  obtain ⟨ad, dv, sg, v, b, rl, bg, f, fp, fa, mc_, ml, vf, ba, bn, L, l, S, J, rfl, hp, hI⟩ := h
  exact rd_lift hD (w_DcountOf X ad dv sg (roO ad b) v m (ad 144) (ad 145) mc_ fa ba bn (roW X ad b rl bg ++ (paW X (ad 100) S ++ J)) a1 a2 hI.h113 hI.rs hI.bd (baP_sub hI.bp (fun c hc => List.mem_append_right _ (List.mem_append_right _ hc))) hI.bo hI.ca hI.ca2) (hp.trans (pm_dB (bW X ad dv sg (roO ad b) v []) (c9 X m ad f fp fa mc_ ml vf l.length) (roW X ad b rl bg ++ (paW X (ad 100) S ++ J)) [4, 5] [0, 1, 2, 3, 6, 7, 8] rfl))
theorem D_reprints {X : xT} {d : Nat} {m : MV} {w : va_W} (h : DW X d m w) : MetX X yX1_reprints (.code yX1_reprints cX1_reprints 1 (some .int)) (rmC 12 2 12) 2 12 [.ref d] w (rdQ X d (p_reprints m)) (rdT X d ex0 (p_reprints m)) := by
  obtain ⟨c, hc⟩ : ∃ c, (p_reprints m).2 = up m 0 0 c := by unfold p_reprints; repeat' (first | exact ⟨_, rfl⟩ | split)
  have hD : DW X d (p_reprints m).2 w := by rw [hc]; exact DW_thr h
  obtain ⟨ad, dv, sg, v, b, rl, bg, f, fp, fa, mc_, ml, vf, ba, bn, L, l, S, J, rfl, hp, hI⟩ := h
  exact rd_lift hD (w_Dreprints X ad dv sg (roO ad b) v m (ad 130) (ad 131) (ad 132) (ad 133) f L hI.h113 hI.rs hI.bd hI.d hI.li) (hp.trans (pm_d0 (bW X ad dv sg (roO ad b) v []) (c9 X m ad f fp fa mc_ ml vf l.length) (roW X ad b rl bg ++ (paW X (ad 100) S ++ J)) [0, 1] [2, 3, 4, 5, 6, 7, 8] rfl))
theorem D_toPrint {X : xT} {d : Nat} {m : MV} {w : va_W} (h : DW X d m w) : MetX X yX1_toPrint (.code yX1_toPrint cX1_toPrint 3 (some .int)) (rmC 12 246 1476) 246 1476 [.ref d] w (rdQ X d (p_toPrint m)) (rdT X d ex0 (p_toPrint m)) := by
  obtain ⟨c, hc⟩ : ∃ c, (p_toPrint m).2 = up m 0 0 c := by unfold p_toPrint; repeat' (first | exact ⟨_, rfl⟩ | split)
  have hD : DW X d (p_toPrint m).2 w := by rw [hc]; exact DW_thr h
  obtain ⟨ad, dv, sg, v, b, rl, bg, f, fp, fa, mc_, ml, vf, ba, bn, L, l, S, J, rfl, hp, hI⟩ := h
  exact rd_lift hD (w_DtoPrint X ad dv sg (roO ad b) v m (ad 130) (ad 131) (ad 132) (ad 133) f L (ad 144) (ad 145) mc_ fa ba bn (roW X ad b rl bg ++ (paW X (ad 100) S ++ J)) hI.h113 hI.rs hI.bd hI.d hI.li (baP_sub hI.bp (fun c hc => List.mem_append_right _ (List.mem_append_right _ hc))) hI.bo hI.ca hI.ca2) (hp.trans (pm_dB (bW X ad dv sg (roO ad b) v []) (c9 X m ad f fp fa mc_ ml vf l.length) (roW X ad b rl bg ++ (paW X (ad 100) S ++ J)) [0, 1, 4, 5] [2, 3, 6, 7, 8] rfl))
theorem D_verify {X : xT} {d : Nat} {m : MV} {w : va_W} (a1 : Int32) (a2 : Int32) (a3 : Int32) (h : DW X d m w) : MetX X yX1_verify (.code yX1_verify cX1_verify 6 (some .int)) (rmC 12 2 12) 2 12 [.ref d, .int a1, .int a2, .int a3] w (rdQ X d (p_verify m a1 a2 a3)) (rdT X d exI (p_verify m a1 a2 a3)) := by
  obtain ⟨c, hc⟩ : ∃ c, (p_verify m a1 a2 a3).2 = up m 0 0 c := by unfold p_verify; repeat' (first | exact ⟨_, rfl⟩ | split)
  have hD : DW X d (p_verify m a1 a2 a3).2 w := by rw [hc]; exact DW_thr h
  obtain ⟨ad, dv, sg, v, b, rl, bg, f, fp, fa, mc_, ml, vf, ba, bn, L, l, S, J, rfl, hp, hI⟩ := h
  exact rd_lift hD (w_Dverify X ad dv sg (roO ad b) v m (ad 144) (ad 145) mc_ fa ba bn (roW X ad b rl bg ++ (paW X (ad 100) S ++ J)) a1 a2 a3 hI.h113 hI.rs hI.bd (baP_sub hI.bp (fun c hc => List.mem_append_right _ (List.mem_append_right _ hc))) hI.bo hI.ca hI.ca2) (hp.trans (pm_dB (bW X ad dv sg (roO ad b) v []) (c9 X m ad f fp fa mc_ ml vf l.length) (roW X ad b rl bg ++ (paW X (ad 100) S ++ J)) [4, 5] [0, 1, 2, 3, 6, 7, 8] rfl))
theorem D_printedAs {X : xT} {d : Nat} {m : MV} {w : va_W} (a1 : Int32) (h : DW X d m w) : MetX X yX1_printedAs (.code yX1_printedAs cX1_printedAs 4 (some .int)) (rmC 12 3 18) 3 18 [.ref d, .int a1] w (rdQ X d (p_printedAs m a1)) (rdT X d exA (p_printedAs m a1)) := by
  obtain ⟨c, hc⟩ : ∃ c, (p_printedAs m a1).2 = up m 0 0 c := by unfold p_printedAs; repeat' (first | exact ⟨_, rfl⟩ | split)
  have hD : DW X d (p_printedAs m a1).2 w := by rw [hc]; exact DW_thr h
  obtain ⟨ad, dv, sg, v, b, rl, bg, f, fp, fa, mc_, ml, vf, ba, bn, L, l, S, J, rfl, hp, hI⟩ := h
  exact rd_lift hD (w_DprintedAs X ad dv sg (roO ad b) v m (ad 144) (ad 145) mc_ fa ba bn (roW X ad b rl bg ++ (paW X (ad 100) S ++ J)) a1 hI.h113 hI.rs hI.bd (baP_sub hI.bp (fun c hc => List.mem_append_right _ (List.mem_append_right _ hc))) hI.bo hI.ca hI.ca2) (hp.trans (pm_dB (bW X ad dv sg (roO ad b) v []) (c9 X m ad f fp fa mc_ ml vf l.length) (roW X ad b rl bg ++ (paW X (ad 100) S ++ J)) [4, 5] [0, 1, 2, 3, 6, 7, 8] rfl))
theorem D_mostAttempts {X : xT} {d : Nat} {m : MV} {w : va_W} (h : DW X d m w) : MetX X yX1_mostAttempts (.code yX1_mostAttempts cX1_mostAttempts 5 (some .int)) (rmC 12 2 12) 2 12 [.ref d] w (rdQ X d (p_mostAttempts m)) (rdT X d ex0 (p_mostAttempts m)) := by
  obtain ⟨c, hc⟩ : ∃ c, (p_mostAttempts m).2 = up m 0 0 c := by unfold p_mostAttempts; repeat' (first | exact ⟨_, rfl⟩ | split)
  have hD : DW X d (p_mostAttempts m).2 w := by rw [hc]; exact DW_thr h
  obtain ⟨ad, dv, sg, v, b, rl, bg, f, fp, fa, mc_, ml, vf, ba, bn, L, l, S, J, rfl, hp, hI⟩ := h
  exact rd_lift hD (w_DmostAttempts X ad dv sg (roO ad b) v m (ad 144) (ad 145) mc_ fa ba bn (roW X ad b rl bg ++ (paW X (ad 100) S ++ J)) hI.h113 hI.rs hI.bd (baP_sub hI.bp (fun c hc => List.mem_append_right _ (List.mem_append_right _ hc))) hI.bo hI.ca hI.ca2) (hp.trans (pm_dB (bW X ad dv sg (roO ad b) v []) (c9 X m ad f fp fa mc_ ml vf l.length) (roW X ad b rl bg ++ (paW X (ad 100) S ++ J)) [4, 5] [0, 1, 2, 3, 6, 7, 8] rfl))
theorem D_doubles {X : xT} {d : Nat} {m : MV} {w : va_W} (h : DW X d m w) : MetX X yX1_doubles (.code yX1_doubles cX1_doubles 5 (some .int)) (rmC 12 2 12) 2 12 [.ref d] w (rdQ X d (p_doubles m)) (rdT X d ex0 (p_doubles m)) := by
  obtain ⟨c, hc⟩ : ∃ c, (p_doubles m).2 = up m 0 0 c := by unfold p_doubles; repeat' (first | exact ⟨_, rfl⟩ | split)
  have hD : DW X d (p_doubles m).2 w := by rw [hc]; exact DW_thr h
  obtain ⟨ad, dv, sg, v, b, rl, bg, f, fp, fa, mc_, ml, vf, ba, bn, L, l, S, J, rfl, hp, hI⟩ := h
  exact rd_lift hD (w_Ddoubles X ad dv sg (roO ad b) v m (ad 144) (ad 145) mc_ fa ba bn (roW X ad b rl bg ++ (paW X (ad 100) S ++ J)) hI.h113 hI.rs hI.bd (baP_sub hI.bp (fun c hc => List.mem_append_right _ (List.mem_append_right _ hc))) hI.bo hI.ca hI.ca2) (hp.trans (pm_dB (bW X ad dv sg (roO ad b) v []) (c9 X m ad f fp fa mc_ ml vf l.length) (roW X ad b rl bg ++ (paW X (ad 100) S ++ J)) [4, 5] [0, 1, 2, 3, 6, 7, 8] rfl))
theorem D_undoDepth {X : xT} {d : Nat} {m : MV} {w : va_W} (h : DW X d m w) : MetX X yX1_undoDepth (.code yX1_undoDepth cX1_undoDepth 1 (some .int)) (rmC 12 2 12) 2 12 [.ref d] w (rdQ X d (p_undoDepth m)) (rdT X d ex0 (p_undoDepth m)) := by
  obtain ⟨c, hc⟩ : ∃ c, (p_undoDepth m).2 = up m 0 0 c := by unfold p_undoDepth; repeat' (first | exact ⟨_, rfl⟩ | split)
  have hD : DW X d (p_undoDepth m).2 w := by rw [hc]; exact DW_thr h
  obtain ⟨ad, dv, sg, v, b, rl, bg, f, fp, fa, mc_, ml, vf, ba, bn, L, l, S, J, rfl, hp, hI⟩ := h
  exact rd_lift hD (w_DundoDepth X ad dv sg (roO ad b) v m (ad 140) (ad 141) (ad 142) (ad 143) fp (S.map (fun r => r.1 102)) hI.h113 hI.rs hI.bd hI.dp (by rw [List.length_map]; exact hI.pa)) (hp.trans (pm_d0 (bW X ad dv sg (roO ad b) v []) (c9 X m ad f fp fa mc_ ml vf l.length) (roW X ad b rl bg ++ (paW X (ad 100) S ++ J)) [2, 3] [0, 1, 4, 5, 6, 7, 8] rfl))
theorem D_labelBegin {X : xT} {d : Nat} {m : MV} {w : va_W} (a1 : Int32) (h : DW X d m w) : MetX X yX1_labelBegin (.code yX1_labelBegin cX1_labelBegin 2 (some .int)) (rmC 12 2 12) 2 12 [.ref d, .int a1] w (rdQ X d (p_labelBegin m a1)) (rdT X d (ex2 exS exI) (p_labelBegin m a1)) := by
  obtain ⟨c, hc⟩ : ∃ c, (p_labelBegin m a1).2 = up m 0 0 c := by unfold p_labelBegin; repeat' (first | exact ⟨_, rfl⟩ | split)
  have hD : DW X d (p_labelBegin m a1).2 w := by rw [hc]; exact DW_thr h
  obtain ⟨ad, dv, sg, v, b, rl, bg, f, fp, fa, mc_, ml, vf, ba, bn, L, l, S, J, rfl, hp, hI⟩ := h
  cases b with
  | false => exact rd_lift (wr := ((c9 X m ad f fp fa mc_ ml vf l.length) ++ (roW X ad false rl bg ++ (paW X (ad 100) S ++ J)))) hD (w_DlabelBegin_n X ad dv sg v m a1 hI.h113 hI.rs hI.bd (hI.nm rfl) (hI.nr rfl)) hp
  | true => exact rd_lift hD (w_DlabelBegin_s X ad dv sg rl bg v m a1 hI.h113 hI.rs hI.bd (hI.mo rfl) (hI.cx rfl)) (hp.trans (pmR (bW X ad dv sg (some (ad 120)) v []) (c9 X m ad f fp fa mc_ ml vf l.length) (rW X ad rl bg []) (paW X (ad 100) S ++ J)))
theorem D_longestRow {X : xT} {d : Nat} {m : MV} {w : va_W} (h : DW X d m w) : MetX X yX1_longestRow (.code yX1_longestRow cX1_longestRow 4 (some .int)) (rmC 12 2 12) 2 12 [.ref d] w (rdQ X d (p_longestRow m)) (rdT X d ex0 (p_longestRow m)) := by
  obtain ⟨c, hc⟩ : ∃ c, (p_longestRow m).2 = up m 0 0 c := by unfold p_longestRow; repeat' (first | exact ⟨_, rfl⟩ | split)
  have hD : DW X d (p_longestRow m).2 w := by rw [hc]; exact DW_thr h
  obtain ⟨ad, dv, sg, v, b, rl, bg, f, fp, fa, mc_, ml, vf, ba, bn, L, l, S, J, rfl, hp, hI⟩ := h
  exact rd_lift (wr := ((c9 X m ad f fp fa mc_ ml vf l.length) ++ (roW X ad b rl bg ++ (paW X (ad 100) S ++ J)))) hD (w_DlongestRow X ad dv sg (roO ad b) v m hI.h113 hI.rs hI.bd) hp
theorem D_reprint {X : xT} {d : Nat} {m : MV} {w : va_W} (a1 : Int32) (h : DW X d m w) : MetX X yX1_reprint (.code yX1_reprint cX1_reprint 5 (some .int)) (rmC 12 2 12) 2 12 [.ref d, .int a1] w (rdQ X d (p_reprint m a1)) (rdT X d ex0 (p_reprint m a1)) := by
  obtain ⟨c, hc⟩ : ∃ c, (p_reprint m a1).2 = up m 0 0 c := by unfold p_reprint; repeat' (first | exact ⟨_, rfl⟩ | split)
  have hD : DW X d (p_reprint m a1).2 w := by rw [hc]; exact DW_thr h
  obtain ⟨ad, dv, sg, v, b, rl, bg, f, fp, fa, mc_, ml, vf, ba, bn, L, l, S, J, rfl, hp, hI⟩ := h
  exact rd_lift hD (w_Dreprint X ad dv sg (roO ad b) v m (ad 130) (ad 131) (ad 132) (ad 133) f L (roW X ad b rl bg ++ (paW X (ad 100) S ++ J)) a1 hI.h113 hI.rs hI.bd hI.d (liP_sub hI.lp (fun c hc => List.mem_append_right _ (List.mem_append_right _ hc))) hI.li) (hp.trans (pm_dB (bW X ad dv sg (roO ad b) v []) (c9 X m ad f fp fa mc_ ml vf l.length) (roW X ad b rl bg ++ (paW X (ad 100) S ++ J)) [0, 1] [2, 3, 4, 5, 6, 7, 8] rfl))
theorem D_nextSerial {X : xT} {d : Nat} {m : MV} {w : va_W} (h : DW X d m w) : MetX X yX1_nextSerial (.code yX1_nextSerial cX1_nextSerial 2 (some .int)) (rmC 12 2 12) 2 12 [.ref d] w (rdQ X d (p_nextSerial m)) (rdT X d ex0 (p_nextSerial m)) := by
  obtain ⟨c, hc⟩ : ∃ c, (p_nextSerial m).2 = up m 0 0 c := by unfold p_nextSerial; repeat' (first | exact ⟨_, rfl⟩ | split)
  have hD : DW X d (p_nextSerial m).2 w := by rw [hc]; exact DW_thr h
  obtain ⟨ad, dv, sg, v, b, rl, bg, f, fp, fa, mc_, ml, vf, ba, bn, L, l, S, J, rfl, hp, hI⟩ := h
  exact rd_lift hD (w_DnextSerial X ad dv sg (roO ad b) v m (ad 130) (ad 131) (ad 132) (ad 133) f L (roW X ad b rl bg ++ (paW X (ad 100) S ++ J)) (ad 144) (ad 145) mc_ fa ba bn hI.h113 hI.rs hI.bd hI.d hI.li (liP_sub hI.lp (fun c hc => List.mem_append_right _ (List.mem_append_right _ hc))) hI.lt (baP_sub hI.bp (fun c hc => List.mem_append_right _ (List.mem_append_right _ hc))) hI.bo hI.ca hI.ca2) (hp.trans (pm_dB (bW X ad dv sg (roO ad b) v []) (c9 X m ad f fp fa mc_ ml vf l.length) (roW X ad b rl bg ++ (paW X (ad 100) S ++ J)) [0, 1, 4, 5] [2, 3, 6, 7, 8] rfl))
theorem D_gapsSeen {X : xT} {d : Nat} {m : MV} {w : va_W} (h : DW X d m w) : MetX X yX1_gapsSeen (.code yX1_gapsSeen cX1_gapsSeen 3 (some .int)) (rmC 12 210 240) 210 240 [.ref d] w (rdQ X d (p_gapsSeen m)) (rdT X d exS (p_gapsSeen m)) := by
  obtain ⟨c, hc⟩ : ∃ c, (p_gapsSeen m).2 = up m 0 0 c := by unfold p_gapsSeen; repeat' (first | exact ⟨_, rfl⟩ | split)
  have hD : DW X d (p_gapsSeen m).2 w := by rw [hc]; exact DW_thr h
  obtain ⟨ad, dv, sg, v, b, rl, bg, f, fp, fa, mc_, ml, vf, ba, bn, L, l, S, J, rfl, hp, hI⟩ := h
  cases b with
  | false => exact rd_lift (wr := ((c9 X m ad f fp fa mc_ ml vf l.length) ++ (roW X ad false rl bg ++ (paW X (ad 100) S ++ J)))) hD (w_DgapsSeen_n X ad dv sg v m hI.h113 hI.rs hI.bd (hI.nm rfl) (hI.nr rfl)) hp
  | true => exact rd_lift hD (w_DgapsSeen_s X ad dv sg rl bg v m hI.h113 hI.rs hI.bd (hI.mo rfl) (hI.cx rfl)) (hp.trans (pmR (bW X ad dv sg (some (ad 120)) v []) (c9 X m ad f fp fa mc_ ml vf l.length) (rW X ad rl bg []) (paW X (ad 100) S ++ J)))
theorem D_nextGap {X : xT} {d : Nat} {m : MV} {w : va_W} (a1 : Int32) (h : DW X d m w) : MetX X yX1_nextGap (.code yX1_nextGap cX1_nextGap 3 (some .int)) (rmC 12 5 20) 5 20 [.ref d, .int a1] w (rdQ X d (p_nextGap m a1)) (rdT X d exS (p_nextGap m a1)) := by
  obtain ⟨c, hc⟩ : ∃ c, (p_nextGap m a1).2 = up m 0 0 c := by unfold p_nextGap; repeat' (first | exact ⟨_, rfl⟩ | split)
  have hD : DW X d (p_nextGap m a1).2 w := by rw [hc]; exact DW_thr h
  obtain ⟨ad, dv, sg, v, b, rl, bg, f, fp, fa, mc_, ml, vf, ba, bn, L, l, S, J, rfl, hp, hI⟩ := h
  cases b with
  | false => exact rd_lift (wr := ((c9 X m ad f fp fa mc_ ml vf l.length) ++ (roW X ad false rl bg ++ (paW X (ad 100) S ++ J)))) hD (w_DnextGap_n X ad dv sg v m a1 hI.h113 hI.rs hI.bd (hI.nm rfl) (hI.nr rfl)) hp
  | true => exact rd_lift hD (w_DnextGap_s X ad dv sg rl bg v m a1 hI.h113 hI.rs hI.bd (hI.mo rfl) (hI.cx rfl)) (hp.trans (pmR (bW X ad dv sg (some (ad 120)) v []) (c9 X m ad f fp fa mc_ ml vf l.length) (rW X ad rl bg []) (paW X (ad 100) S ++ J)))

/-! keeping a State: the past of the driver beside the model's history -/
set_option maxRecDepth 100000
theorem RS_c {r r' : Nat → Int32} {v : MV} (h : RS r v) (h19 : inN (r 19) 0 24) (e : ∀ j, j < 941 → r' j = r j) : RS r' v := by
  refine ⟨fun f i ho => by rw [e _ (by have := (cf_rng ho).1; omega)]; exact h.1 f i ho, fun k w hk hw => ?_⟩
  have h24 := h19.2.2
  rw [e 19 (by decide)] at hk ⊢
  rw [e _ (by omega)]
  exact h.2 k w hk hw
theorem SI_c {J : va_W} {nb : Nat → Prop} {row row' : Nat → Int32} {r : stR} (h : SI J nb row r) (e : ∀ j, j < 941 → row' j = row j) : SI J nb row' r := by
  obtain ⟨h1, h2, h3, h4, h5, h6, h7, h8, h9, h10, h11⟩ := h
  have e3 := e 3 (by decide)
  have h19 : inN (row 19) 0 24 := h2.2.2.2.2.2.2.2
  refine ⟨RS_c h1 h19 e, ?_, fun hb => ?_, fun hb => ?_, h5, h6, ?_, h8, h9, ?_, by rw [e3]; exact h11⟩
  · unfold bnd at h2 ⊢
    rw [e 1 (by decide), e 14 (by decide), e 11 (by decide), e 12 (by decide), e 2 (by decide), e 13 (by decide), e 9 (by decide), e 19 (by decide)]
    exact h2
  · obtain ⟨a, b, c⟩ := h3 hb
    refine ⟨by rw [e 0 (by decide)]; exact a, ?_, ?_⟩
    · unfold rollOK at b ⊢
      rw [e3, e 4 (by decide), e 5 (by decide), e 6 (by decide), e 7 (by decide)]
      refine ⟨b.1, b.2.1, b.2.2.1, b.2.2.2.1, b.2.2.2.2.1, fun k hk => ?_⟩
      rw [e (26 + k) (by omega)]
      exact b.2.2.2.2.2 k hk
    · obtain ⟨c0, c1, c2, c3, c4, c5⟩ := c
      have hm := b.1.2.2
      refine ⟨by rw [e3]; exact c0, by rw [e 4 (by decide)]; exact c1, by rw [e 5 (by decide)]; exact c2, by rw [e 6 (by decide)]; exact c3, by rw [e 7 (by decide)]; exact c4, fun i hi => ?_⟩
      rw [e3] at hi
      rw [c5 i hi, bgF_c (e 4 (by decide)) (e 5 (by decide)) i (fun k hk => e _ (by omega))]
  · obtain ⟨a, b⟩ := h4 hb
    exact ⟨by rw [e 0 (by decide)]; exact a, by rw [e 9 (by decide)]; exact b⟩
  · obtain ⟨a, b, c⟩ := h7
    refine ⟨by rw [e 18 (by decide)]; exact a, b, fun k x hx => ?_⟩
    have hk : k < r.2.2.2.2.2.2.length := (List.getElem?_eq_some_iff.mp hx).1
    rw [e _ (by omega)]
    exact c k x hx
  · rw [e 9 (by decide), e 11 (by decide), e 12 (by decide)]
    exact h10
theorem SI_J {J K : va_W} {nb : Nat → Prop} {row : Nat → Int32} {r : stR} (h : SI J nb row r) (hs : ∀ c ∈ J, c ∈ K) : SI K nb row r := by
  obtain ⟨h1, h2, h3, h4, h5, h6, h7⟩ := h
  exact ⟨h1, h2, h3, h4, h5, liP_sub h6 hs, h7⟩
theorem thR_c {u m : MV} (e : ∀ a j, a = 10 ∨ a = 13 → u.1 a j = m.1 a j) : thR u = thR m := by
  funext z
  unfold thR
  rw [e 10 0 (by decide), e 13 _ (by decide)]
/-- the rows of the history when one more comes -/
theorem hi_rec {m : MV} {n : Nat} (h4 : m.1 4 0 = nI n) (h8 : n ≤ 8) : (p_record (up m 0 0 0)).1 4 0 = nI ((if n = 8 then 7 else n) + 1) ∧ ∀ k j, j < 941 → k ≤ (if n = 8 then 7 else n) → hiR (p_record (up m 0 0 0)) k j = if k = (if n = 8 then 7 else n) then m.1 1 j else hiR m (if n = 8 then k + 1 else k) j := by
  have e4 : (up m 0 0 0).1 4 0 = nI n := by rw [up_ne (by omega)]; exact h4
  by_cases c : n = 8
  · subst c
    have e : p_record (up m 0 0 0) = up (upR (up m 0 0 0) 2 (hput 7 941 (hsh 7528 ((up m 0 0 0).1 2)) ((up m 0 0 0).1 1))) 4 0 8 := by unfold p_record; rw [if_pos (by rw [e4]; rfl)]
    refine ⟨by rw [e, up_s]; rfl, fun k j hj hk => ?_⟩
    rw [if_pos rfl] at hk ⊢
    unfold hiR
    rw [e, up_ne (by omega), upR_self]
    unfold hput
    rw [if_pos rfl]
    by_cases ck : k = 7
    · subst ck
      rw [if_pos (by omega), if_pos rfl, show 941 * 7 + j - 941 * 7 = j by omega]
      exact up_ne (by omega)
    · rw [if_neg (by omega), if_neg ck]
      unfold hsh
      rw [if_pos (by omega), up_ne (by omega)]
      congr 1
      omega
  · have e : p_record (up m 0 0 0) = up (upR (up m 0 0 0) 2 (hput n 941 ((up m 0 0 0).1 2) ((up m 0 0 0).1 1))) 4 0 (nI (n + 1)) := by
      unfold p_record
      rw [if_neg (by rw [e4]; intro z; exact c ((nI_eq (b := 8) (by omega) (by decide)).mp z)), e4, nx_nI (by omega)]
    refine ⟨by rw [e, up_s, if_neg c], fun k j hj hk => ?_⟩
    rw [if_neg c] at hk
    rw [if_neg c, if_neg c]
    unfold hiR
    rw [e, up_ne (by omega), upR_self]
    unfold hput
    by_cases ck : k = n
    · subst ck
      rw [if_pos (by omega), if_pos rfl, show 941 * k + j - 941 * k = j by omega]
      exact up_ne (by omega)
    · rw [if_neg (by omega), if_neg ck, up_ne (by omega)]
/-- the addresses behind: the past's array, head and tail are new -/
def adP (ad : Nat → Nat) (e hd tl : Nat) : Nat → Nat := fun k => if k = 140 then e else if k = 142 then hd else if k = 143 then tl else ad k
/-- the State that leaves the past when there are eight -/
def drS (S : List stR) : List stR := if S.length = 8 then S.take 1 else []
theorem kpl_map {α β : Type} (g : α → β) (S : List α) : kpl (S.map g) = (kpl S).map g := by
  unfold kpl
  rw [List.length_map]
  split
  · rw [List.map_tail]
  · rfl
theorem kpl_get {α : Type} {S : List α} {k : Nat} {r : α} (h : (kpl S)[k]? = some r) : S[if S.length = 8 then k + 1 else k]? = some r := by
  unfold kpl at h
  split at h
  · rename_i c
    rw [if_pos c]
    cases S with
    | nil => simp at h
    | cons a S => simpa using h
  · rename_i c
    rw [if_neg c]; exact h
theorem kpl_l {α : Type} {S : List α} (h : S.length ≤ 8) : (kpl S).length = if S.length = 8 then 7 else S.length := by
  unfold kpl
  split
  · rename_i c; rw [List.length_tail, c]
  · rfl
theorem paW_kp (X : xT) (d : Nat) (S : List stR) : (paW X d S) = paW X d (drS S) ++ paW X d (kpl S) := by
  unfold drS kpl paW
  split
  · cases S with
    | nil => rfl
    | cons a S => simp
  · rfl
section KEEP
variable {X : xT} {m : MV} {ad : Nat → Nat} {dv sg : Nat → Int32} {v : MV} {b : Bool} {rl bg : Nat → Int32} {f fp fa : Nat → Option Nat} {vf : Nat → Int32} {ba bn : Nat → Nat} {L : List (Nat × Nat)} {l : List Int32} {S : List stR} {J : va_W}
theorem TX_fr {X : xT} {J K : va_W} {m u : MV} {ad : Nat → Nat} {sg : Nat → Int32} {fa : Nat → Option Nat} {ba bn : Nat → Nat} (h : TX X J m ad sg fa ba bn) (e : ∀ a j, 5 ≤ a → a ≤ 17 → u.1 a j = m.1 a j) (e2 : u.2 = m.2) (hs : ∀ c ∈ J, c ∈ K) : TX X K u ad sg fa ba bn := by
  have r : ∀ a, 5 ≤ a → a ≤ 17 → u.1 a = m.1 a := fun a h1 h2 => funext fun j => e a j h1 h2
  obtain ⟨h1, h2, h3, h4, h5, h6⟩ := h
  have h3' := baP_sub h3 hs
  unfold TX sgR runH baP batOK nmR at *
  rw [r 5 (by decide) (by decide), r 6 (by decide) (by decide), r 7 (by decide) (by decide), r 8 (by decide) (by decide), r 9 (by decide) (by decide), r 10 (by decide) (by decide), r 12 (by decide) (by decide), r 13 (by decide) (by decide), r 14 (by decide) (by decide), r 15 (by decide) (by decide), r 16 (by decide) (by decide), r 17 (by decide) (by decide), e2]
  exact ⟨h1, h2, h3', h4, h5, fun b hb => by obtain ⟨bs, ln, sf, q1, q2, q3⟩ := h6 b hb; exact ⟨bs, ln, sf, hs _ q1, hs _ q2, q3⟩⟩
theorem IX_fr {m u : MV} {dv : Nat → Int32} {vf : Nat → Int32} {vc : Nat} {l : List Int32} (h : IX m dv vf vc l) (e : ∀ a j, (a = 19 ∨ a = 20 ∨ a = 23 ∨ a = 24 ∨ a = 34 ∨ a = 35) → u.1 a j = m.1 a j) : IX u dv vf vc l := by
  have r : ∀ a, (a = 19 ∨ a = 20 ∨ a = 23 ∨ a = 24 ∨ a = 34 ∨ a = 35) → u.1 a = m.1 a := fun a h1 => funext fun j => e a j h1
  unfold IX at *
  rw [r 19 (by decide), r 20 (by decide), r 23 (by decide), r 24 (by decide), r 34 (by decide), r 35 (by decide)]
  exact h
/-- a State is kept: what stands behind it -/
theorem INV_keep {a9 : Nat → Nat} {e9 hp9 tp9 : Nat} {fp9 f9 : Nat → Option Nat} {bg9 : Nat → Int32} (h : INV X m ad dv sg v b rl bg f fp fa vf ba bn L l S J) (hk : kpQ a9 hp9 tp9 fp9 f9 bg9 rl bg (ad 141) (S.map (fun r => r.1 102)) L) :
    INV X (p_record (up m 0 0 0)) (adP ad e9 hp9 tp9) dv sg v b rl bg f fp9 fa vf ba bn L l (kpl S ++ [(a9, cpV v, b, rl, bg9, f9, L)]) (paW X (ad 100) (drS S) ++ J) := by
  obtain ⟨k1, k2, k3, k4⟩ := hk
  obtain ⟨h1, h2, h3, ⟨h4, h5, h6⟩, ⟨h7, h8, h9⟩, h10, h11⟩ := h
  have hsub : ∀ c ∈ J, c ∈ (paW X (ad 100) (drS S) ++ J) := fun c hc => List.mem_append_right _ hc
  obtain ⟨g1, g2⟩ := hi_rec h8 h7
  have hl := kpl_l h7
  have n10 : thR (p_record (up m 0 0 0)) = thR m := thR_c (fun a j ha => rec_a (by omega))
  refine ⟨h1, ?_, ?_, ⟨?_, h5, h6⟩, ⟨?_, ?_, ?_⟩, ?_, ?_⟩
  · rw [n10, rec_row]
    exact SI_J h2 hsub
  · intro hb
    have := h3 hb
    unfold bgOK at *
    rw [rec_row]
    intro i hi
    rw [rec_a (by decide)]
    exact this i hi
  · rw [List.map_append, ← kpl_map]
    exact k1
  · rw [List.length_append, hl]; show _ + 1 ≤ 8; split <;> omega
  · rw [g1, List.length_append, hl]; rfl
  · intro k r hr
    rw [n10]
    rcases Nat.lt_or_ge k (kpl S).length with q | q
    · rw [List.getElem?_append_left q] at hr
      have := h9 _ r (kpl_get hr)
      refine SI_J (SI_c this (fun j hj => ?_)) hsub
      rw [g2 k j hj (by omega), if_neg (by omega)]
    · rw [List.getElem?_append_right q] at hr
      have e : k = (kpl S).length := by
        rcases Nat.lt_or_ge (k - (kpl S).length) 1 with z | z
        · omega
        · rw [List.getElem?_eq_none (by exact z)] at hr; exact nomatch hr
      rw [e, Nat.sub_self] at hr
      obtain rfl : (a9, cpV v, b, rl, bg9, f9, L) = r := Option.some.inj hr
      obtain ⟨s1, s2, s3, s4, s5, s6, s7, s8, s9, s10, s11⟩ := h2
      refine SI_J (SI_c (row := m.1 1) ⟨RS_cp s1 s2.2.2.2.2.2.2.2, s2, fun hb => ?_, s4, ⟨k2, k3⟩, s6, s7, s8, s9, s10, s11⟩ (fun j hj => ?_)) hsub
      · obtain ⟨z1, z2, z3⟩ := s3 hb
        refine ⟨z1, z2, ?_⟩
        show rlR (m.1 1) rl bg9
        rw [k4]
        exact rlR_rc z3 ⟨z2.1.1, Nat.zero_le _, z2.1.2.2⟩
      · rw [g2 k j hj (by omega), if_pos (by omega)]
  · exact TX_fr h10 (fun a j _ _ => rec_a (by omega)) (by unfold p_record; split <;> rfl) hsub
  · exact IX_fr h11 (fun a j _ => rec_a (by omega))
end KEEP

/-! changing the driver: worlds and what stands beside them -/
set_option maxRecDepth 100000
theorem pmK {α : Type} {B cells oth c9 N R D K J PW KN : List α} (hc : (cells ++ oth).Perm c9) (e1 : PW = D ++ K) (e2 : KN = K ++ N) : ((B ++ (cells ++ (N ++ (R ++ (PW ++ J))))) ++ oth).Perm (B ++ (c9 ++ (R ++ (KN ++ (D ++ J))))) := by
  subst e1 e2
  rw [List.append_assoc B]
  refine List.Perm.append_left B ?_
  refine List.Perm.trans ?_ (hc.append_right _)
  rw [List.append_assoc cells, List.append_assoc cells]
  refine List.Perm.append_left cells ?_
  refine List.perm_append_comm.trans ?_
  refine List.Perm.append_left oth ?_
  refine (List.perm_append_comm_assoc N R _).trans ?_
  refine List.Perm.append_left R ?_
  rw [List.append_assoc D, List.append_assoc K]
  have h1 : (N ++ (D ++ (K ++ J))).Perm (K ++ (N ++ (D ++ J))) := by
    refine List.Perm.trans ?_ (List.perm_append_comm_assoc N K _)
    exact List.Perm.append_left N (List.perm_append_comm_assoc D K J)
  exact h1
theorem pmKS {α : Type} {B cells oth c9 N R D K J PW KN : List α} (hc : (cells ++ oth).Perm c9) (e1 : PW = D ++ K) (e2 : KN = K ++ N) : ((B ++ (R ++ (cells ++ (N ++ (PW ++ J))))) ++ oth).Perm (B ++ (c9 ++ (R ++ (KN ++ (D ++ J))))) := by
  refine List.Perm.trans ?_ (pmK (N := N) (R := R) hc e1 e2)
  refine List.Perm.append_right oth (List.Perm.append_left B ?_)
  refine (List.perm_append_comm_assoc R cells _).trans ?_
  exact List.Perm.append_left cells (List.perm_append_comm_assoc R N _)
theorem paW_app (X : xT) (d : Nat) (S : List stR) (r : stR) : paW X d (S ++ [r]) = paW X d S ++ stW X d r := by
  unfold paW
  rw [List.flatMap_append]
  congr 1
  exact List.append_nil _
theorem paW_mem {X : xT} {d : Nat} {S : List stR} {J : va_W} : ∀ y ∈ S.map (fun r => r.1 102), ∃ fs, (y, Sum.inr (3, fs)) ∈ (paW X d S ++ J : va_W) := by
  intro y hy
  obtain ⟨r, hr, rfl⟩ := List.mem_map.mp hy
  exact ⟨_, List.mem_append_left _ (List.mem_flatMap.mpr ⟨r, hr, List.mem_cons_self⟩)⟩
theorem paW_memR {X : xT} {d : Nat} {S : List stR} {J R : va_W} : ∀ y ∈ S.map (fun r => r.1 102), ∃ fs, (y, Sum.inr (3, fs)) ∈ (R ++ (paW X d S ++ J) : va_W) := fun y hy => by
  obtain ⟨fs, h⟩ := paW_mem (X := X) (d := d) (J := J) y hy
  exact ⟨fs, List.mem_append_right _ h⟩
/-- one number of a State and of the row changes, of those that nothing else hangs on -/
theorem SI_up {J : va_W} {nb : Nat → Prop} {row : Nat → Int32} {a : Nat → Nat} {v : MV} {b : Bool} {rl bg : Nat → Int32} {f0 : Nat → Option Nat} {L : List (Nat × Nat)} {f i : Nat} {x : Int32} (h : SI J nb row (a, v, b, rl, bg, f0, L)) (ho : okc f i) (h7 : f ≠ 7) (hj : cf f i = 8 ∨ (15 ≤ cf f i ∧ cf f i ≤ 17) ∨ (20 ≤ cf f i ∧ cf f i < 26) ∨ (125 ≤ cf f i ∧ cf f i < 605)) : SI J nb (upd row (cf f i) x) (a, up v f i x, b, rl, bg, f0, L) := by
  obtain ⟨h1, h2, h3, h4, h5, h6, h7', h8, h9, h10, h11⟩ := h
  have e : ∀ j, ¬ (j = 8 ∨ (15 ≤ j ∧ j ≤ 17) ∨ (20 ≤ j ∧ j < 26) ∨ (125 ≤ j ∧ j < 605)) → upd row (cf f i) x j = row j := fun j hn => upd_ne (fun z => hn (by rw [z]; exact hj))
  refine ⟨RS_up h1 ho h7, ?_, fun hb => ?_, fun hb => ?_, h5, h6, ?_, h8, h9, ?_, by rw [e 3 (by decide)]; exact h11⟩
  · unfold bnd at h2 ⊢
    rw [e 1 (by decide), e 14 (by decide), e 11 (by decide), e 12 (by decide), e 2 (by decide), e 13 (by decide), e 9 (by decide), e 19 (by decide)]
    exact h2
  · obtain ⟨z1, z2, z3⟩ := h3 hb
    refine ⟨by rw [e 0 (by decide)]; exact z1, ?_, ?_⟩
    · unfold rollOK at z2 ⊢
      rw [e 3 (by decide), e 4 (by decide), e 5 (by decide), e 6 (by decide), e 7 (by decide)]
      refine ⟨z2.1, z2.2.1, z2.2.2.1, z2.2.2.2.1, z2.2.2.2.2.1, fun k hk => ?_⟩
      rw [e (26 + k) (by omega)]
      exact z2.2.2.2.2.2 k hk
    · obtain ⟨c0, c1, c2, c3, c4, c5⟩ := z3
      have hm := z2.1.2.2
      refine ⟨by rw [e 3 (by decide)]; exact c0, by rw [e 4 (by decide)]; exact c1, by rw [e 5 (by decide)]; exact c2, by rw [e 6 (by decide)]; exact c3, by rw [e 7 (by decide)]; exact c4, fun i' hi => ?_⟩
      rw [e 3 (by decide)] at hi
      rw [c5 i' hi, bgF_c (e 4 (by decide)) (e 5 (by decide)) i' (fun k hk => e _ (by omega))]
  · obtain ⟨z1, z2⟩ := h4 hb
    exact ⟨by rw [e 0 (by decide)]; exact z1, by rw [e 9 (by decide)]; exact z2⟩
  · obtain ⟨z1, z2, z3⟩ := h7'
    refine ⟨by rw [e 18 (by decide)]; exact z1, z2, fun k y hy => ?_⟩
    have hk : k < L.length := (List.getElem?_eq_some_iff.mp hy).1
    rw [e _ (by omega)]
    exact z3 k y hy
  · rw [e 9 (by decide), e 11 (by decide), e 12 (by decide)]
    exact h10
section CUR
variable {X : xT} {m u : MV} {ad ad2 : Nat → Nat} {dv sg : Nat → Int32} {v v2 : MV} {b b2 : Bool} {rl bg rl2 bg2 : Nat → Int32} {f f2 fp fa : Nat → Option Nat} {vf : Nat → Int32} {ba bn : Nat → Nat} {L L2 : List (Nat × Nat)} {l : List Int32} {S : List stR} {J K : va_W}
/-- the State in use changes -/
theorem INV_cur (h : INV X m ad dv sg v b rl bg f fp fa vf ba bn L l S J) (e : ∀ a j, a ≠ 0 → a ≠ 1 → a ≠ 18 → u.1 a j = m.1 a j) (e2 : u.2 = m.2) (had : ∀ k, k = 113 ∨ k = 102 ∨ k = 141 ∨ k = 142 ∨ k = 143 ∨ k = 145 ∨ k = 147 → ad2 k = ad k) (hs : SI K (thR m) (u.1 1) (ad2, v2, b2, rl2, bg2, f2, L2)) (hb : b2 = true → bgOK u) (hJ : ∀ c ∈ J, c ∈ K) : INV X u ad2 dv sg v2 b2 rl2 bg2 f2 fp fa vf ba bn L2 l S K := by
  obtain ⟨h1, -, -, ⟨h4, h5, h6⟩, ⟨h7, h8, h9⟩, h10, h11⟩ := h
  have n10 : thR u = thR m := thR_c (fun a j ha => e a j (by omega) (by omega) (by omega))
  refine ⟨by rw [had 113 (by decide), had 102 (by decide)]; exact h1, by rw [n10]; exact hs, hb, ⟨by rw [had 141 (by decide), had 142 (by decide), had 143 (by decide)]; exact h4, by rw [had 141 (by decide)]; exact h5, by rw [had 141 (by decide)]; exact h6⟩, ⟨h7, by rw [e 4 0 (by decide) (by decide) (by decide)]; exact h8, fun k r hr => ?_⟩, ?_, ?_⟩
  · rw [n10]
    have hh : hiR u k = hiR m k := funext fun j => e 2 _ (by decide) (by decide) (by decide)
    rw [hh]
    exact SI_J (h9 k r hr) hJ
  · have := TX_fr (K := K) h10 (fun a j _ _ => e a j (by omega) (by omega) (by omega)) e2 hJ
    obtain ⟨q1, q2, q3, q4, q5, q6⟩ := this
    exact ⟨q1, q2, q3, q4, by rw [had 145 (by decide)]; exact q5, q6⟩
  · rw [had 147 (by decide)]
    exact IX_fr h11 (fun a j _ => e a j (by omega) (by omega) (by omega))
end CUR
section ROO
variable {X : xT} {m : MV} {ad : Nat → Nat} {dv sg : Nat → Int32} {v : MV} {b : Bool} {rl bg : Nat → Int32} {f fp fa : Nat → Option Nat} {vf : Nat → Int32} {ba bn : Nat → Nat} {L : List (Nat × Nat)} {l : List Int32} {S : List stR} {J : va_W}
theorem INV.z9 (h : INV X m ad dv sg v b rl bg f fp fa vf ba bn L l S J) : v.1 9 0 = 0 ∨ v.1 9 0 = 1 := by rw [h.rs.g 9 0 (by decide)]; exact h.bd.2.2.2.2.2.2.1
theorem INV.z10 (h : INV X m ad dv sg v b rl bg f fp fa vf ba bn L l S J) : v.1 10 0 = 0 ∨ v.1 10 0 = 1 := by rw [h.rs.g 10 0 (by decide)]; exact h.bd.2.2.2.2.2.1
theorem INV.rl0 (h : INV X m ad dv sg v b rl bg f fp fa vf ba bn L l S J) (hb : b = true) : rl 0 = nI (nx (rl 0)) ∧ nx (rl 0) ≤ 99 := by
  obtain ⟨-, h2, h3⟩ := h.2.1.2.2.1 hb
  have e : rl 0 = m.1 1 3 := h3.1
  rw [e]; exact ⟨h2.1.1, h2.1.2.2⟩
theorem INV.ro (h : INV X m ad dv sg v b rl bg f fp fa vf ba bn L l S J) : ∃ P0, roP X ad (roO ad b) rl bg b (roW X ad b rl bg ++ (paW X (ad 100) S ++ J)) P0 := by
  cases b with
  | false => exact ⟨_, Or.inl ⟨rfl, rfl, rfl⟩⟩
  | true => exact ⟨paW X (ad 100) S ++ J, Or.inr ⟨rfl, rfl, List.Perm.refl _, (h.rl0 rfl).1, (h.rl0 rfl).2⟩⟩
theorem INV.cp (h : INV X m ad dv sg v b rl bg f fp fa vf ba bn L l S J) : 10 ≤ ad 141 := h.2.2.2.1.2.1
theorem INV.cp4 (h : INV X m ad dv sg v b rl bg f fp fa vf ba bn L l S J) : ad 141 ≤ 400 := h.2.2.2.1.2.2
theorem INV.lp8 (h : INV X m ad dv sg v b rl bg f fp fa vf ba bn L l S J) : (S.map (fun r => r.1 102)).length ≤ 8 := by rw [List.length_map]; exact h.p8
theorem INV.nb6 (h : INV X m ad dv sg v b rl bg f fp fa vf ba bn L l S J) : nx (m.1 10 0) ≤ 6 := h.bo.1.2.2
end ROO
theorem rec_2 (m : MV) : (p_record (up m 0 0 0)).2 = m.2 := by unfold p_record; split <;> rfl
theorem bgOK_fr {u m : MV} (h : bgOK m) (e : ∀ j, (3 ≤ j ∧ j ≤ 5) ∨ (26 ≤ j ∧ j < 125) → u.1 1 j = m.1 1 j) (e18 : ∀ j, u.1 18 j = m.1 18 j) (h3 : inN (m.1 1 3) 0 99) : bgOK u := by
  unfold bgOK at *
  rw [e 3 (by omega)]
  intro i hi
  rw [e18, h i hi, bgF_c (e 4 (by omega)) (e 5 (by omega)) i (fun k hk => e _ (by have := h3.2.2; omega))]

/-! LabelDriverLaw -/
set_option maxRecDepth 100000
def RX0 : String := "LabelDriverLaw"
abbrev cX0_load : ByteArray := method_3_code
def yX0_load : MethodName := ⟨RX0, "load", "(LLabelDriver;[J)I"⟩
def dkwX0_load_0 : List UInt8 := [43, 3, 42, 182, 0, 7, 133, 80, 167, 0, 6, 77, 4, 172, 3, 172]
abbrev dktX0_load_0 : List UInt8 := dkwX0_load_0 ++ []
theorem dksX0_load_0 : cX0_load.data.toList.drop 0 = dktX0_load_0 := by decide +kernel
theorem dX0_load_0 : decode cX0_load 0 = .ok (.aload_n 1, 1) := dk_43 (dk_at dksX0_load_0 0 rfl rfl)
theorem dX0_load_1 : decode cX0_load 1 = .ok (.iconst 0, 1) := dk_3 (dk_at dksX0_load_0 1 rfl rfl)
theorem dX0_load_2 : decode cX0_load 2 = .ok (.aload_n 0, 1) := dk_42 (dk_at dksX0_load_0 2 rfl rfl)
theorem dX0_load_3 : decode cX0_load 3 = .ok (.invokevirtual 7, 3) := dk_182 0 7 (dk_at dksX0_load_0 3 rfl rfl)
theorem dX0_load_6 : decode cX0_load 6 = .ok (.i2l, 1) := dk_133 (dk_at dksX0_load_0 6 rfl rfl)
theorem dX0_load_7 : decode cX0_load 7 = .ok (.lastore, 1) := dk_80 (dk_at dksX0_load_0 7 rfl rfl)
theorem dX0_load_8 : decode cX0_load 8 = .ok (.goto 6, 3) := dk_167 0 6 (dk_at dksX0_load_0 8 rfl rfl)
theorem dX0_load_11 : decode cX0_load 11 = .ok (.astore_n 2, 1) := dk_77 (dk_at dksX0_load_0 11 rfl rfl)
theorem dX0_load_12 : decode cX0_load 12 = .ok (.iconst 1, 1) := dk_4 (dk_at dksX0_load_0 12 rfl rfl)
theorem dX0_load_13 : decode cX0_load 13 = .ok (.ireturn, 1) := dk_172 (dk_at dksX0_load_0 13 rfl rfl)
theorem dX0_load_14 : decode cX0_load 14 = .ok (.iconst 0, 1) := dk_3 (dk_at dksX0_load_0 14 rfl rfl)
theorem dX0_load_15 : decode cX0_load 15 = .ok (.ireturn, 1) := dk_172 (dk_at dksX0_load_0 15 rfl rfl)
abbrev cX0_mountRoll : ByteArray := method_4_code
def yX0_mountRoll : MethodName := ⟨RX0, "mountRoll", "(LLabelDriver;IIIII[J)I"⟩
def dkwX0_mountRoll_1 : List UInt8 := [172]
abbrev dktX0_mountRoll_1 : List UInt8 := dkwX0_mountRoll_1 ++ []
def dkwX0_mountRoll_0 : List UInt8 := [25, 6, 3, 42, 27, 28, 29, 21, 4, 21, 5, 182, 0, 15, 133, 80, 167, 0, 7, 58, 7, 4, 172, 3]
abbrev dktX0_mountRoll_0 : List UInt8 := dkwX0_mountRoll_0 ++ dktX0_mountRoll_1
theorem dksX0_mountRoll_0 : cX0_mountRoll.data.toList.drop 0 = dktX0_mountRoll_0 := by decide +kernel
theorem dksX0_mountRoll_1 : cX0_mountRoll.data.toList.drop 24 = dktX0_mountRoll_1 := dk_seg dksX0_mountRoll_0 24 rfl rfl
theorem dX0_mountRoll_0 : decode cX0_mountRoll 0 = .ok (.aload 6, 2) := dk_25 6 (dk_at dksX0_mountRoll_0 0 rfl rfl)
theorem dX0_mountRoll_2 : decode cX0_mountRoll 2 = .ok (.iconst 0, 1) := dk_3 (dk_at dksX0_mountRoll_0 2 rfl rfl)
theorem dX0_mountRoll_3 : decode cX0_mountRoll 3 = .ok (.aload_n 0, 1) := dk_42 (dk_at dksX0_mountRoll_0 3 rfl rfl)
theorem dX0_mountRoll_4 : decode cX0_mountRoll 4 = .ok (.iload_n 1, 1) := dk_27 (dk_at dksX0_mountRoll_0 4 rfl rfl)
theorem dX0_mountRoll_5 : decode cX0_mountRoll 5 = .ok (.iload_n 2, 1) := dk_28 (dk_at dksX0_mountRoll_0 5 rfl rfl)
theorem dX0_mountRoll_6 : decode cX0_mountRoll 6 = .ok (.iload_n 3, 1) := dk_29 (dk_at dksX0_mountRoll_0 6 rfl rfl)
theorem dX0_mountRoll_7 : decode cX0_mountRoll 7 = .ok (.iload 4, 2) := dk_21 4 (dk_at dksX0_mountRoll_0 7 rfl rfl)
theorem dX0_mountRoll_9 : decode cX0_mountRoll 9 = .ok (.iload 5, 2) := dk_21 5 (dk_at dksX0_mountRoll_0 9 rfl rfl)
theorem dX0_mountRoll_11 : decode cX0_mountRoll 11 = .ok (.invokevirtual 15, 3) := dk_182 0 15 (dk_at dksX0_mountRoll_0 11 rfl rfl)
theorem dX0_mountRoll_14 : decode cX0_mountRoll 14 = .ok (.i2l, 1) := dk_133 (dk_at dksX0_mountRoll_0 14 rfl rfl)
theorem dX0_mountRoll_15 : decode cX0_mountRoll 15 = .ok (.lastore, 1) := dk_80 (dk_at dksX0_mountRoll_0 15 rfl rfl)
theorem dX0_mountRoll_16 : decode cX0_mountRoll 16 = .ok (.goto 7, 3) := dk_167 0 7 (dk_at dksX0_mountRoll_0 16 rfl rfl)
theorem dX0_mountRoll_19 : decode cX0_mountRoll 19 = .ok (.astore 7, 2) := dk_58 7 (dk_at dksX0_mountRoll_0 19 rfl rfl)
theorem dX0_mountRoll_21 : decode cX0_mountRoll 21 = .ok (.iconst 1, 1) := dk_4 (dk_at dksX0_mountRoll_0 21 rfl rfl)
theorem dX0_mountRoll_22 : decode cX0_mountRoll 22 = .ok (.ireturn, 1) := dk_172 (dk_at dksX0_mountRoll_0 22 rfl rfl)
theorem dX0_mountRoll_23 : decode cX0_mountRoll 23 = .ok (.iconst 0, 1) := dk_3 (dk_at dksX0_mountRoll_0 23 rfl rfl)
theorem dX0_mountRoll_24 : decode cX0_mountRoll 24 = .ok (.ireturn, 1) := dk_172 (dk_at dksX0_mountRoll_1 0 rfl rfl)
abbrev cX0_stretch : ByteArray := method_5_code
def yX0_stretch : MethodName := ⟨RX0, "stretch", "(LLabelDriver;II[J)I"⟩
def dkwX0_stretch_1 : List UInt8 := [172, 3, 172]
abbrev dktX0_stretch_1 : List UInt8 := dkwX0_stretch_1 ++ []
def dkwX0_stretch_0 : List UInt8 := [45, 3, 42, 27, 28, 182, 0, 19, 133, 80, 167, 0, 15, 58, 4, 4, 172, 58, 4, 5, 172, 58, 4, 6]
abbrev dktX0_stretch_0 : List UInt8 := dkwX0_stretch_0 ++ dktX0_stretch_1
theorem dksX0_stretch_0 : cX0_stretch.data.toList.drop 0 = dktX0_stretch_0 := by decide +kernel
theorem dksX0_stretch_1 : cX0_stretch.data.toList.drop 24 = dktX0_stretch_1 := dk_seg dksX0_stretch_0 24 rfl rfl
theorem dX0_stretch_0 : decode cX0_stretch 0 = .ok (.aload_n 3, 1) := dk_45 (dk_at dksX0_stretch_0 0 rfl rfl)
theorem dX0_stretch_1 : decode cX0_stretch 1 = .ok (.iconst 0, 1) := dk_3 (dk_at dksX0_stretch_0 1 rfl rfl)
theorem dX0_stretch_2 : decode cX0_stretch 2 = .ok (.aload_n 0, 1) := dk_42 (dk_at dksX0_stretch_0 2 rfl rfl)
theorem dX0_stretch_3 : decode cX0_stretch 3 = .ok (.iload_n 1, 1) := dk_27 (dk_at dksX0_stretch_0 3 rfl rfl)
theorem dX0_stretch_4 : decode cX0_stretch 4 = .ok (.iload_n 2, 1) := dk_28 (dk_at dksX0_stretch_0 4 rfl rfl)
theorem dX0_stretch_5 : decode cX0_stretch 5 = .ok (.invokevirtual 19, 3) := dk_182 0 19 (dk_at dksX0_stretch_0 5 rfl rfl)
theorem dX0_stretch_8 : decode cX0_stretch 8 = .ok (.i2l, 1) := dk_133 (dk_at dksX0_stretch_0 8 rfl rfl)
theorem dX0_stretch_9 : decode cX0_stretch 9 = .ok (.lastore, 1) := dk_80 (dk_at dksX0_stretch_0 9 rfl rfl)
theorem dX0_stretch_10 : decode cX0_stretch 10 = .ok (.goto 15, 3) := dk_167 0 15 (dk_at dksX0_stretch_0 10 rfl rfl)
theorem dX0_stretch_13 : decode cX0_stretch 13 = .ok (.astore 4, 2) := dk_58 4 (dk_at dksX0_stretch_0 13 rfl rfl)
theorem dX0_stretch_15 : decode cX0_stretch 15 = .ok (.iconst 1, 1) := dk_4 (dk_at dksX0_stretch_0 15 rfl rfl)
theorem dX0_stretch_16 : decode cX0_stretch 16 = .ok (.ireturn, 1) := dk_172 (dk_at dksX0_stretch_0 16 rfl rfl)
theorem dX0_stretch_17 : decode cX0_stretch 17 = .ok (.astore 4, 2) := dk_58 4 (dk_at dksX0_stretch_0 17 rfl rfl)
theorem dX0_stretch_19 : decode cX0_stretch 19 = .ok (.iconst 2, 1) := dk_5 (dk_at dksX0_stretch_0 19 rfl rfl)
theorem dX0_stretch_20 : decode cX0_stretch 20 = .ok (.ireturn, 1) := dk_172 (dk_at dksX0_stretch_0 20 rfl rfl)
theorem dX0_stretch_21 : decode cX0_stretch 21 = .ok (.astore 4, 2) := dk_58 4 (dk_at dksX0_stretch_0 21 rfl rfl)
theorem dX0_stretch_23 : decode cX0_stretch 23 = .ok (.iconst 3, 1) := dk_6 (dk_at dksX0_stretch_0 23 rfl rfl)
theorem dX0_stretch_24 : decode cX0_stretch 24 = .ok (.ireturn, 1) := dk_172 (dk_at dksX0_stretch_1 0 rfl rfl)
theorem dX0_stretch_25 : decode cX0_stretch 25 = .ok (.iconst 0, 1) := dk_3 (dk_at dksX0_stretch_1 1 rfl rfl)
theorem dX0_stretch_26 : decode cX0_stretch 26 = .ok (.ireturn, 1) := dk_172 (dk_at dksX0_stretch_1 2 rfl rfl)
abbrev cX0_mountRibbon : ByteArray := method_6_code
def yX0_mountRibbon : MethodName := ⟨RX0, "mountRibbon", "(LLabelDriver;I[J)I"⟩
def dkwX0_mountRibbon_0 : List UInt8 := [44, 3, 42, 27, 182, 0, 27, 133, 80, 167, 0, 6, 78, 4, 172, 3, 172]
abbrev dktX0_mountRibbon_0 : List UInt8 := dkwX0_mountRibbon_0 ++ []
theorem dksX0_mountRibbon_0 : cX0_mountRibbon.data.toList.drop 0 = dktX0_mountRibbon_0 := by decide +kernel
theorem dX0_mountRibbon_0 : decode cX0_mountRibbon 0 = .ok (.aload_n 2, 1) := dk_44 (dk_at dksX0_mountRibbon_0 0 rfl rfl)
theorem dX0_mountRibbon_1 : decode cX0_mountRibbon 1 = .ok (.iconst 0, 1) := dk_3 (dk_at dksX0_mountRibbon_0 1 rfl rfl)
theorem dX0_mountRibbon_2 : decode cX0_mountRibbon 2 = .ok (.aload_n 0, 1) := dk_42 (dk_at dksX0_mountRibbon_0 2 rfl rfl)
theorem dX0_mountRibbon_3 : decode cX0_mountRibbon 3 = .ok (.iload_n 1, 1) := dk_27 (dk_at dksX0_mountRibbon_0 3 rfl rfl)
theorem dX0_mountRibbon_4 : decode cX0_mountRibbon 4 = .ok (.invokevirtual 27, 3) := dk_182 0 27 (dk_at dksX0_mountRibbon_0 4 rfl rfl)
theorem dX0_mountRibbon_7 : decode cX0_mountRibbon 7 = .ok (.i2l, 1) := dk_133 (dk_at dksX0_mountRibbon_0 7 rfl rfl)
theorem dX0_mountRibbon_8 : decode cX0_mountRibbon 8 = .ok (.lastore, 1) := dk_80 (dk_at dksX0_mountRibbon_0 8 rfl rfl)
theorem dX0_mountRibbon_9 : decode cX0_mountRibbon 9 = .ok (.goto 6, 3) := dk_167 0 6 (dk_at dksX0_mountRibbon_0 9 rfl rfl)
theorem dX0_mountRibbon_12 : decode cX0_mountRibbon 12 = .ok (.astore_n 3, 1) := dk_78 (dk_at dksX0_mountRibbon_0 12 rfl rfl)
theorem dX0_mountRibbon_13 : decode cX0_mountRibbon 13 = .ok (.iconst 1, 1) := dk_4 (dk_at dksX0_mountRibbon_0 13 rfl rfl)
theorem dX0_mountRibbon_14 : decode cX0_mountRibbon 14 = .ok (.ireturn, 1) := dk_172 (dk_at dksX0_mountRibbon_0 14 rfl rfl)
theorem dX0_mountRibbon_15 : decode cX0_mountRibbon 15 = .ok (.iconst 0, 1) := dk_3 (dk_at dksX0_mountRibbon_0 15 rfl rfl)
theorem dX0_mountRibbon_16 : decode cX0_mountRibbon 16 = .ok (.ireturn, 1) := dk_172 (dk_at dksX0_mountRibbon_0 16 rfl rfl)
abbrev cX0_position : ByteArray := method_7_code
def yX0_position : MethodName := ⟨RX0, "position", "(LLabelDriver;[J)I"⟩
def dkwX0_position_0 : List UInt8 := [43, 3, 42, 182, 0, 31, 133, 80, 167, 0, 6, 77, 4, 172, 3, 172]
abbrev dktX0_position_0 : List UInt8 := dkwX0_position_0 ++ []
theorem dksX0_position_0 : cX0_position.data.toList.drop 0 = dktX0_position_0 := by decide +kernel
theorem dX0_position_0 : decode cX0_position 0 = .ok (.aload_n 1, 1) := dk_43 (dk_at dksX0_position_0 0 rfl rfl)
theorem dX0_position_1 : decode cX0_position 1 = .ok (.iconst 0, 1) := dk_3 (dk_at dksX0_position_0 1 rfl rfl)
theorem dX0_position_2 : decode cX0_position 2 = .ok (.aload_n 0, 1) := dk_42 (dk_at dksX0_position_0 2 rfl rfl)
theorem dX0_position_3 : decode cX0_position 3 = .ok (.invokevirtual 31, 3) := dk_182 0 31 (dk_at dksX0_position_0 3 rfl rfl)
theorem dX0_position_6 : decode cX0_position 6 = .ok (.i2l, 1) := dk_133 (dk_at dksX0_position_0 6 rfl rfl)
theorem dX0_position_7 : decode cX0_position 7 = .ok (.lastore, 1) := dk_80 (dk_at dksX0_position_0 7 rfl rfl)
theorem dX0_position_8 : decode cX0_position 8 = .ok (.goto 6, 3) := dk_167 0 6 (dk_at dksX0_position_0 8 rfl rfl)
theorem dX0_position_11 : decode cX0_position 11 = .ok (.astore_n 2, 1) := dk_77 (dk_at dksX0_position_0 11 rfl rfl)
theorem dX0_position_12 : decode cX0_position 12 = .ok (.iconst 1, 1) := dk_4 (dk_at dksX0_position_0 12 rfl rfl)
theorem dX0_position_13 : decode cX0_position 13 = .ok (.ireturn, 1) := dk_172 (dk_at dksX0_position_0 13 rfl rfl)
theorem dX0_position_14 : decode cX0_position 14 = .ok (.iconst 0, 1) := dk_3 (dk_at dksX0_position_0 14 rfl rfl)
theorem dX0_position_15 : decode cX0_position 15 = .ok (.ireturn, 1) := dk_172 (dk_at dksX0_position_0 15 rfl rfl)
abbrev cX0_webEnd : ByteArray := method_8_code
def yX0_webEnd : MethodName := ⟨RX0, "webEnd", "(LLabelDriver;[J)I"⟩
def dkwX0_webEnd_0 : List UInt8 := [43, 3, 42, 182, 0, 34, 133, 80, 167, 0, 6, 77, 4, 172, 3, 172]
abbrev dktX0_webEnd_0 : List UInt8 := dkwX0_webEnd_0 ++ []
theorem dksX0_webEnd_0 : cX0_webEnd.data.toList.drop 0 = dktX0_webEnd_0 := by decide +kernel
theorem dX0_webEnd_0 : decode cX0_webEnd 0 = .ok (.aload_n 1, 1) := dk_43 (dk_at dksX0_webEnd_0 0 rfl rfl)
theorem dX0_webEnd_1 : decode cX0_webEnd 1 = .ok (.iconst 0, 1) := dk_3 (dk_at dksX0_webEnd_0 1 rfl rfl)
theorem dX0_webEnd_2 : decode cX0_webEnd 2 = .ok (.aload_n 0, 1) := dk_42 (dk_at dksX0_webEnd_0 2 rfl rfl)
theorem dX0_webEnd_3 : decode cX0_webEnd 3 = .ok (.invokevirtual 34, 3) := dk_182 0 34 (dk_at dksX0_webEnd_0 3 rfl rfl)
theorem dX0_webEnd_6 : decode cX0_webEnd 6 = .ok (.i2l, 1) := dk_133 (dk_at dksX0_webEnd_0 6 rfl rfl)
theorem dX0_webEnd_7 : decode cX0_webEnd 7 = .ok (.lastore, 1) := dk_80 (dk_at dksX0_webEnd_0 7 rfl rfl)
theorem dX0_webEnd_8 : decode cX0_webEnd 8 = .ok (.goto 6, 3) := dk_167 0 6 (dk_at dksX0_webEnd_0 8 rfl rfl)
theorem dX0_webEnd_11 : decode cX0_webEnd 11 = .ok (.astore_n 2, 1) := dk_77 (dk_at dksX0_webEnd_0 11 rfl rfl)
theorem dX0_webEnd_12 : decode cX0_webEnd 12 = .ok (.iconst 1, 1) := dk_4 (dk_at dksX0_webEnd_0 12 rfl rfl)
theorem dX0_webEnd_13 : decode cX0_webEnd 13 = .ok (.ireturn, 1) := dk_172 (dk_at dksX0_webEnd_0 13 rfl rfl)
theorem dX0_webEnd_14 : decode cX0_webEnd 14 = .ok (.iconst 0, 1) := dk_3 (dk_at dksX0_webEnd_0 14 rfl rfl)
theorem dX0_webEnd_15 : decode cX0_webEnd 15 = .ok (.ireturn, 1) := dk_172 (dk_at dksX0_webEnd_0 15 rfl rfl)
abbrev cX0_labelBegin : ByteArray := method_9_code
def yX0_labelBegin : MethodName := ⟨RX0, "labelBegin", "(LLabelDriver;I[J)I"⟩
def dkwX0_labelBegin_0 : List UInt8 := [44, 3, 42, 27, 182, 0, 37, 133, 80, 167, 0, 9, 78, 4, 172, 78, 5, 172, 3, 172]
abbrev dktX0_labelBegin_0 : List UInt8 := dkwX0_labelBegin_0 ++ []
theorem dksX0_labelBegin_0 : cX0_labelBegin.data.toList.drop 0 = dktX0_labelBegin_0 := by decide +kernel
theorem dX0_labelBegin_0 : decode cX0_labelBegin 0 = .ok (.aload_n 2, 1) := dk_44 (dk_at dksX0_labelBegin_0 0 rfl rfl)
theorem dX0_labelBegin_1 : decode cX0_labelBegin 1 = .ok (.iconst 0, 1) := dk_3 (dk_at dksX0_labelBegin_0 1 rfl rfl)
theorem dX0_labelBegin_2 : decode cX0_labelBegin 2 = .ok (.aload_n 0, 1) := dk_42 (dk_at dksX0_labelBegin_0 2 rfl rfl)
theorem dX0_labelBegin_3 : decode cX0_labelBegin 3 = .ok (.iload_n 1, 1) := dk_27 (dk_at dksX0_labelBegin_0 3 rfl rfl)
theorem dX0_labelBegin_4 : decode cX0_labelBegin 4 = .ok (.invokevirtual 37, 3) := dk_182 0 37 (dk_at dksX0_labelBegin_0 4 rfl rfl)
theorem dX0_labelBegin_7 : decode cX0_labelBegin 7 = .ok (.i2l, 1) := dk_133 (dk_at dksX0_labelBegin_0 7 rfl rfl)
theorem dX0_labelBegin_8 : decode cX0_labelBegin 8 = .ok (.lastore, 1) := dk_80 (dk_at dksX0_labelBegin_0 8 rfl rfl)
theorem dX0_labelBegin_9 : decode cX0_labelBegin 9 = .ok (.goto 9, 3) := dk_167 0 9 (dk_at dksX0_labelBegin_0 9 rfl rfl)
theorem dX0_labelBegin_12 : decode cX0_labelBegin 12 = .ok (.astore_n 3, 1) := dk_78 (dk_at dksX0_labelBegin_0 12 rfl rfl)
theorem dX0_labelBegin_13 : decode cX0_labelBegin 13 = .ok (.iconst 1, 1) := dk_4 (dk_at dksX0_labelBegin_0 13 rfl rfl)
theorem dX0_labelBegin_14 : decode cX0_labelBegin 14 = .ok (.ireturn, 1) := dk_172 (dk_at dksX0_labelBegin_0 14 rfl rfl)
theorem dX0_labelBegin_15 : decode cX0_labelBegin 15 = .ok (.astore_n 3, 1) := dk_78 (dk_at dksX0_labelBegin_0 15 rfl rfl)
theorem dX0_labelBegin_16 : decode cX0_labelBegin 16 = .ok (.iconst 2, 1) := dk_5 (dk_at dksX0_labelBegin_0 16 rfl rfl)
theorem dX0_labelBegin_17 : decode cX0_labelBegin 17 = .ok (.ireturn, 1) := dk_172 (dk_at dksX0_labelBegin_0 17 rfl rfl)
theorem dX0_labelBegin_18 : decode cX0_labelBegin 18 = .ok (.iconst 0, 1) := dk_3 (dk_at dksX0_labelBegin_0 18 rfl rfl)
theorem dX0_labelBegin_19 : decode cX0_labelBegin 19 = .ok (.ireturn, 1) := dk_172 (dk_at dksX0_labelBegin_0 19 rfl rfl)
abbrev cX0_lightAt : ByteArray := method_10_code
def yX0_lightAt : MethodName := ⟨RX0, "lightAt", "(LLabelDriver;I[J)I"⟩
def dkwX0_lightAt_0 : List UInt8 := [44, 3, 42, 27, 182, 0, 40, 133, 80, 167, 0, 6, 78, 4, 172, 3, 172]
abbrev dktX0_lightAt_0 : List UInt8 := dkwX0_lightAt_0 ++ []
theorem dksX0_lightAt_0 : cX0_lightAt.data.toList.drop 0 = dktX0_lightAt_0 := by decide +kernel
theorem dX0_lightAt_0 : decode cX0_lightAt 0 = .ok (.aload_n 2, 1) := dk_44 (dk_at dksX0_lightAt_0 0 rfl rfl)
theorem dX0_lightAt_1 : decode cX0_lightAt 1 = .ok (.iconst 0, 1) := dk_3 (dk_at dksX0_lightAt_0 1 rfl rfl)
theorem dX0_lightAt_2 : decode cX0_lightAt 2 = .ok (.aload_n 0, 1) := dk_42 (dk_at dksX0_lightAt_0 2 rfl rfl)
theorem dX0_lightAt_3 : decode cX0_lightAt 3 = .ok (.iload_n 1, 1) := dk_27 (dk_at dksX0_lightAt_0 3 rfl rfl)
theorem dX0_lightAt_4 : decode cX0_lightAt 4 = .ok (.invokevirtual 40, 3) := dk_182 0 40 (dk_at dksX0_lightAt_0 4 rfl rfl)
theorem dX0_lightAt_7 : decode cX0_lightAt 7 = .ok (.i2l, 1) := dk_133 (dk_at dksX0_lightAt_0 7 rfl rfl)
theorem dX0_lightAt_8 : decode cX0_lightAt 8 = .ok (.lastore, 1) := dk_80 (dk_at dksX0_lightAt_0 8 rfl rfl)
theorem dX0_lightAt_9 : decode cX0_lightAt 9 = .ok (.goto 6, 3) := dk_167 0 6 (dk_at dksX0_lightAt_0 9 rfl rfl)
theorem dX0_lightAt_12 : decode cX0_lightAt 12 = .ok (.astore_n 3, 1) := dk_78 (dk_at dksX0_lightAt_0 12 rfl rfl)
theorem dX0_lightAt_13 : decode cX0_lightAt 13 = .ok (.iconst 1, 1) := dk_4 (dk_at dksX0_lightAt_0 13 rfl rfl)
theorem dX0_lightAt_14 : decode cX0_lightAt 14 = .ok (.ireturn, 1) := dk_172 (dk_at dksX0_lightAt_0 14 rfl rfl)
theorem dX0_lightAt_15 : decode cX0_lightAt 15 = .ok (.iconst 0, 1) := dk_3 (dk_at dksX0_lightAt_0 15 rfl rfl)
theorem dX0_lightAt_16 : decode cX0_lightAt 16 = .ok (.ireturn, 1) := dk_172 (dk_at dksX0_lightAt_0 16 rfl rfl)
abbrev cX0_labelUnderHead : ByteArray := method_11_code
def yX0_labelUnderHead : MethodName := ⟨RX0, "labelUnderHead", "(LLabelDriver;[J)I"⟩
def dkwX0_labelUnderHead_0 : List UInt8 := [43, 3, 42, 182, 0, 43, 133, 80, 167, 0, 6, 77, 4, 172, 3, 172]
abbrev dktX0_labelUnderHead_0 : List UInt8 := dkwX0_labelUnderHead_0 ++ []
theorem dksX0_labelUnderHead_0 : cX0_labelUnderHead.data.toList.drop 0 = dktX0_labelUnderHead_0 := by decide +kernel
theorem dX0_labelUnderHead_0 : decode cX0_labelUnderHead 0 = .ok (.aload_n 1, 1) := dk_43 (dk_at dksX0_labelUnderHead_0 0 rfl rfl)
theorem dX0_labelUnderHead_1 : decode cX0_labelUnderHead 1 = .ok (.iconst 0, 1) := dk_3 (dk_at dksX0_labelUnderHead_0 1 rfl rfl)
theorem dX0_labelUnderHead_2 : decode cX0_labelUnderHead 2 = .ok (.aload_n 0, 1) := dk_42 (dk_at dksX0_labelUnderHead_0 2 rfl rfl)
theorem dX0_labelUnderHead_3 : decode cX0_labelUnderHead 3 = .ok (.invokevirtual 43, 3) := dk_182 0 43 (dk_at dksX0_labelUnderHead_0 3 rfl rfl)
theorem dX0_labelUnderHead_6 : decode cX0_labelUnderHead 6 = .ok (.i2l, 1) := dk_133 (dk_at dksX0_labelUnderHead_0 6 rfl rfl)
theorem dX0_labelUnderHead_7 : decode cX0_labelUnderHead 7 = .ok (.lastore, 1) := dk_80 (dk_at dksX0_labelUnderHead_0 7 rfl rfl)
theorem dX0_labelUnderHead_8 : decode cX0_labelUnderHead 8 = .ok (.goto 6, 3) := dk_167 0 6 (dk_at dksX0_labelUnderHead_0 8 rfl rfl)
theorem dX0_labelUnderHead_11 : decode cX0_labelUnderHead 11 = .ok (.astore_n 2, 1) := dk_77 (dk_at dksX0_labelUnderHead_0 11 rfl rfl)
theorem dX0_labelUnderHead_12 : decode cX0_labelUnderHead 12 = .ok (.iconst 1, 1) := dk_4 (dk_at dksX0_labelUnderHead_0 12 rfl rfl)
theorem dX0_labelUnderHead_13 : decode cX0_labelUnderHead 13 = .ok (.ireturn, 1) := dk_172 (dk_at dksX0_labelUnderHead_0 13 rfl rfl)
theorem dX0_labelUnderHead_14 : decode cX0_labelUnderHead 14 = .ok (.iconst 0, 1) := dk_3 (dk_at dksX0_labelUnderHead_0 14 rfl rfl)
theorem dX0_labelUnderHead_15 : decode cX0_labelUnderHead 15 = .ok (.ireturn, 1) := dk_172 (dk_at dksX0_labelUnderHead_0 15 rfl rfl)
abbrev cX0_feed : ByteArray := method_12_code
def yX0_feed : MethodName := ⟨RX0, "feed", "(LLabelDriver;I[J)I"⟩
def dkwX0_feed_0 : List UInt8 := [44, 3, 42, 27, 182, 0, 46, 133, 80, 167, 0, 9, 78, 4, 172, 78, 5, 172, 3, 172]
abbrev dktX0_feed_0 : List UInt8 := dkwX0_feed_0 ++ []
theorem dksX0_feed_0 : cX0_feed.data.toList.drop 0 = dktX0_feed_0 := by decide +kernel
theorem dX0_feed_0 : decode cX0_feed 0 = .ok (.aload_n 2, 1) := dk_44 (dk_at dksX0_feed_0 0 rfl rfl)
theorem dX0_feed_1 : decode cX0_feed 1 = .ok (.iconst 0, 1) := dk_3 (dk_at dksX0_feed_0 1 rfl rfl)
theorem dX0_feed_2 : decode cX0_feed 2 = .ok (.aload_n 0, 1) := dk_42 (dk_at dksX0_feed_0 2 rfl rfl)
theorem dX0_feed_3 : decode cX0_feed 3 = .ok (.iload_n 1, 1) := dk_27 (dk_at dksX0_feed_0 3 rfl rfl)
theorem dX0_feed_4 : decode cX0_feed 4 = .ok (.invokevirtual 46, 3) := dk_182 0 46 (dk_at dksX0_feed_0 4 rfl rfl)
theorem dX0_feed_7 : decode cX0_feed 7 = .ok (.i2l, 1) := dk_133 (dk_at dksX0_feed_0 7 rfl rfl)
theorem dX0_feed_8 : decode cX0_feed 8 = .ok (.lastore, 1) := dk_80 (dk_at dksX0_feed_0 8 rfl rfl)
theorem dX0_feed_9 : decode cX0_feed 9 = .ok (.goto 9, 3) := dk_167 0 9 (dk_at dksX0_feed_0 9 rfl rfl)
theorem dX0_feed_12 : decode cX0_feed 12 = .ok (.astore_n 3, 1) := dk_78 (dk_at dksX0_feed_0 12 rfl rfl)
theorem dX0_feed_13 : decode cX0_feed 13 = .ok (.iconst 1, 1) := dk_4 (dk_at dksX0_feed_0 13 rfl rfl)
theorem dX0_feed_14 : decode cX0_feed 14 = .ok (.ireturn, 1) := dk_172 (dk_at dksX0_feed_0 14 rfl rfl)
theorem dX0_feed_15 : decode cX0_feed 15 = .ok (.astore_n 3, 1) := dk_78 (dk_at dksX0_feed_0 15 rfl rfl)
theorem dX0_feed_16 : decode cX0_feed 16 = .ok (.iconst 2, 1) := dk_5 (dk_at dksX0_feed_0 16 rfl rfl)
theorem dX0_feed_17 : decode cX0_feed 17 = .ok (.ireturn, 1) := dk_172 (dk_at dksX0_feed_0 17 rfl rfl)
theorem dX0_feed_18 : decode cX0_feed 18 = .ok (.iconst 0, 1) := dk_3 (dk_at dksX0_feed_0 18 rfl rfl)
theorem dX0_feed_19 : decode cX0_feed 19 = .ok (.ireturn, 1) := dk_172 (dk_at dksX0_feed_0 19 rfl rfl)
abbrev cX0_feedToForm : ByteArray := method_13_code
def yX0_feedToForm : MethodName := ⟨RX0, "feedToForm", "(LLabelDriver;[J)I"⟩
def dkwX0_feedToForm_0 : List UInt8 := [43, 3, 42, 182, 0, 49, 133, 80, 167, 0, 6, 77, 4, 172, 3, 172]
abbrev dktX0_feedToForm_0 : List UInt8 := dkwX0_feedToForm_0 ++ []
theorem dksX0_feedToForm_0 : cX0_feedToForm.data.toList.drop 0 = dktX0_feedToForm_0 := by decide +kernel
theorem dX0_feedToForm_0 : decode cX0_feedToForm 0 = .ok (.aload_n 1, 1) := dk_43 (dk_at dksX0_feedToForm_0 0 rfl rfl)
theorem dX0_feedToForm_1 : decode cX0_feedToForm 1 = .ok (.iconst 0, 1) := dk_3 (dk_at dksX0_feedToForm_0 1 rfl rfl)
theorem dX0_feedToForm_2 : decode cX0_feedToForm 2 = .ok (.aload_n 0, 1) := dk_42 (dk_at dksX0_feedToForm_0 2 rfl rfl)
theorem dX0_feedToForm_3 : decode cX0_feedToForm 3 = .ok (.invokevirtual 49, 3) := dk_182 0 49 (dk_at dksX0_feedToForm_0 3 rfl rfl)
theorem dX0_feedToForm_6 : decode cX0_feedToForm 6 = .ok (.i2l, 1) := dk_133 (dk_at dksX0_feedToForm_0 6 rfl rfl)
theorem dX0_feedToForm_7 : decode cX0_feedToForm 7 = .ok (.lastore, 1) := dk_80 (dk_at dksX0_feedToForm_0 7 rfl rfl)
theorem dX0_feedToForm_8 : decode cX0_feedToForm 8 = .ok (.goto 6, 3) := dk_167 0 6 (dk_at dksX0_feedToForm_0 8 rfl rfl)
theorem dX0_feedToForm_11 : decode cX0_feedToForm 11 = .ok (.astore_n 2, 1) := dk_77 (dk_at dksX0_feedToForm_0 11 rfl rfl)
theorem dX0_feedToForm_12 : decode cX0_feedToForm 12 = .ok (.iconst 1, 1) := dk_4 (dk_at dksX0_feedToForm_0 12 rfl rfl)
theorem dX0_feedToForm_13 : decode cX0_feedToForm 13 = .ok (.ireturn, 1) := dk_172 (dk_at dksX0_feedToForm_0 13 rfl rfl)
theorem dX0_feedToForm_14 : decode cX0_feedToForm 14 = .ok (.iconst 0, 1) := dk_3 (dk_at dksX0_feedToForm_0 14 rfl rfl)
theorem dX0_feedToForm_15 : decode cX0_feedToForm 15 = .ok (.ireturn, 1) := dk_172 (dk_at dksX0_feedToForm_0 15 rfl rfl)
abbrev cX0_learn : ByteArray := method_14_code
def yX0_learn : MethodName := ⟨RX0, "learn", "(LLabelDriver;[J)I"⟩
def dkwX0_learn_0 : List UInt8 := [43, 3, 42, 182, 0, 52, 133, 80, 167, 0, 6, 77, 4, 172, 3, 172]
abbrev dktX0_learn_0 : List UInt8 := dkwX0_learn_0 ++ []
theorem dksX0_learn_0 : cX0_learn.data.toList.drop 0 = dktX0_learn_0 := by decide +kernel
theorem dX0_learn_0 : decode cX0_learn 0 = .ok (.aload_n 1, 1) := dk_43 (dk_at dksX0_learn_0 0 rfl rfl)
theorem dX0_learn_1 : decode cX0_learn 1 = .ok (.iconst 0, 1) := dk_3 (dk_at dksX0_learn_0 1 rfl rfl)
theorem dX0_learn_2 : decode cX0_learn 2 = .ok (.aload_n 0, 1) := dk_42 (dk_at dksX0_learn_0 2 rfl rfl)
theorem dX0_learn_3 : decode cX0_learn 3 = .ok (.invokevirtual 52, 3) := dk_182 0 52 (dk_at dksX0_learn_0 3 rfl rfl)
theorem dX0_learn_6 : decode cX0_learn 6 = .ok (.i2l, 1) := dk_133 (dk_at dksX0_learn_0 6 rfl rfl)
theorem dX0_learn_7 : decode cX0_learn 7 = .ok (.lastore, 1) := dk_80 (dk_at dksX0_learn_0 7 rfl rfl)
theorem dX0_learn_8 : decode cX0_learn 8 = .ok (.goto 6, 3) := dk_167 0 6 (dk_at dksX0_learn_0 8 rfl rfl)
theorem dX0_learn_11 : decode cX0_learn 11 = .ok (.astore_n 2, 1) := dk_77 (dk_at dksX0_learn_0 11 rfl rfl)
theorem dX0_learn_12 : decode cX0_learn 12 = .ok (.iconst 1, 1) := dk_4 (dk_at dksX0_learn_0 12 rfl rfl)
theorem dX0_learn_13 : decode cX0_learn 13 = .ok (.ireturn, 1) := dk_172 (dk_at dksX0_learn_0 13 rfl rfl)
theorem dX0_learn_14 : decode cX0_learn 14 = .ok (.iconst 0, 1) := dk_3 (dk_at dksX0_learn_0 14 rfl rfl)
theorem dX0_learn_15 : decode cX0_learn 15 = .ok (.ireturn, 1) := dk_172 (dk_at dksX0_learn_0 15 rfl rfl)
abbrev cX0_learned : ByteArray := method_15_code
def yX0_learned : MethodName := ⟨RX0, "learned", "(LLabelDriver;I[J)I"⟩
def dkwX0_learned_0 : List UInt8 := [44, 3, 42, 27, 182, 0, 55, 133, 80, 167, 0, 9, 78, 4, 172, 78, 5, 172, 3, 172]
abbrev dktX0_learned_0 : List UInt8 := dkwX0_learned_0 ++ []
theorem dksX0_learned_0 : cX0_learned.data.toList.drop 0 = dktX0_learned_0 := by decide +kernel
theorem dX0_learned_0 : decode cX0_learned 0 = .ok (.aload_n 2, 1) := dk_44 (dk_at dksX0_learned_0 0 rfl rfl)
theorem dX0_learned_1 : decode cX0_learned 1 = .ok (.iconst 0, 1) := dk_3 (dk_at dksX0_learned_0 1 rfl rfl)
theorem dX0_learned_2 : decode cX0_learned 2 = .ok (.aload_n 0, 1) := dk_42 (dk_at dksX0_learned_0 2 rfl rfl)
theorem dX0_learned_3 : decode cX0_learned 3 = .ok (.iload_n 1, 1) := dk_27 (dk_at dksX0_learned_0 3 rfl rfl)
theorem dX0_learned_4 : decode cX0_learned 4 = .ok (.invokevirtual 55, 3) := dk_182 0 55 (dk_at dksX0_learned_0 4 rfl rfl)
theorem dX0_learned_7 : decode cX0_learned 7 = .ok (.i2l, 1) := dk_133 (dk_at dksX0_learned_0 7 rfl rfl)
theorem dX0_learned_8 : decode cX0_learned 8 = .ok (.lastore, 1) := dk_80 (dk_at dksX0_learned_0 8 rfl rfl)
theorem dX0_learned_9 : decode cX0_learned 9 = .ok (.goto 9, 3) := dk_167 0 9 (dk_at dksX0_learned_0 9 rfl rfl)
theorem dX0_learned_12 : decode cX0_learned 12 = .ok (.astore_n 3, 1) := dk_78 (dk_at dksX0_learned_0 12 rfl rfl)
theorem dX0_learned_13 : decode cX0_learned 13 = .ok (.iconst 1, 1) := dk_4 (dk_at dksX0_learned_0 13 rfl rfl)
theorem dX0_learned_14 : decode cX0_learned 14 = .ok (.ireturn, 1) := dk_172 (dk_at dksX0_learned_0 14 rfl rfl)
theorem dX0_learned_15 : decode cX0_learned 15 = .ok (.astore_n 3, 1) := dk_78 (dk_at dksX0_learned_0 15 rfl rfl)
theorem dX0_learned_16 : decode cX0_learned 16 = .ok (.iconst 2, 1) := dk_5 (dk_at dksX0_learned_0 16 rfl rfl)
theorem dX0_learned_17 : decode cX0_learned 17 = .ok (.ireturn, 1) := dk_172 (dk_at dksX0_learned_0 17 rfl rfl)
theorem dX0_learned_18 : decode cX0_learned 18 = .ok (.iconst 0, 1) := dk_3 (dk_at dksX0_learned_0 18 rfl rfl)
theorem dX0_learned_19 : decode cX0_learned 19 = .ok (.ireturn, 1) := dk_172 (dk_at dksX0_learned_0 19 rfl rfl)
abbrev cX0_gapsSeen : ByteArray := method_16_code
def yX0_gapsSeen : MethodName := ⟨RX0, "gapsSeen", "(LLabelDriver;[J)I"⟩
def dkwX0_gapsSeen_0 : List UInt8 := [43, 3, 42, 182, 0, 60, 133, 80, 167, 0, 6, 77, 4, 172, 3, 172]
abbrev dktX0_gapsSeen_0 : List UInt8 := dkwX0_gapsSeen_0 ++ []
theorem dksX0_gapsSeen_0 : cX0_gapsSeen.data.toList.drop 0 = dktX0_gapsSeen_0 := by decide +kernel
theorem dX0_gapsSeen_0 : decode cX0_gapsSeen 0 = .ok (.aload_n 1, 1) := dk_43 (dk_at dksX0_gapsSeen_0 0 rfl rfl)
theorem dX0_gapsSeen_1 : decode cX0_gapsSeen 1 = .ok (.iconst 0, 1) := dk_3 (dk_at dksX0_gapsSeen_0 1 rfl rfl)
theorem dX0_gapsSeen_2 : decode cX0_gapsSeen 2 = .ok (.aload_n 0, 1) := dk_42 (dk_at dksX0_gapsSeen_0 2 rfl rfl)
theorem dX0_gapsSeen_3 : decode cX0_gapsSeen 3 = .ok (.invokevirtual 60, 3) := dk_182 0 60 (dk_at dksX0_gapsSeen_0 3 rfl rfl)
theorem dX0_gapsSeen_6 : decode cX0_gapsSeen 6 = .ok (.i2l, 1) := dk_133 (dk_at dksX0_gapsSeen_0 6 rfl rfl)
theorem dX0_gapsSeen_7 : decode cX0_gapsSeen 7 = .ok (.lastore, 1) := dk_80 (dk_at dksX0_gapsSeen_0 7 rfl rfl)
theorem dX0_gapsSeen_8 : decode cX0_gapsSeen 8 = .ok (.goto 6, 3) := dk_167 0 6 (dk_at dksX0_gapsSeen_0 8 rfl rfl)
theorem dX0_gapsSeen_11 : decode cX0_gapsSeen 11 = .ok (.astore_n 2, 1) := dk_77 (dk_at dksX0_gapsSeen_0 11 rfl rfl)
theorem dX0_gapsSeen_12 : decode cX0_gapsSeen 12 = .ok (.iconst 1, 1) := dk_4 (dk_at dksX0_gapsSeen_0 12 rfl rfl)
theorem dX0_gapsSeen_13 : decode cX0_gapsSeen 13 = .ok (.ireturn, 1) := dk_172 (dk_at dksX0_gapsSeen_0 13 rfl rfl)
theorem dX0_gapsSeen_14 : decode cX0_gapsSeen 14 = .ok (.iconst 0, 1) := dk_3 (dk_at dksX0_gapsSeen_0 14 rfl rfl)
theorem dX0_gapsSeen_15 : decode cX0_gapsSeen 15 = .ok (.ireturn, 1) := dk_172 (dk_at dksX0_gapsSeen_0 15 rfl rfl)
abbrev cX0_seenTo : ByteArray := method_17_code
def yX0_seenTo : MethodName := ⟨RX0, "seenTo", "(LLabelDriver;[J)I"⟩
def dkwX0_seenTo_0 : List UInt8 := [43, 3, 42, 182, 0, 63, 133, 80, 167, 0, 6, 77, 4, 172, 3, 172]
abbrev dktX0_seenTo_0 : List UInt8 := dkwX0_seenTo_0 ++ []
theorem dksX0_seenTo_0 : cX0_seenTo.data.toList.drop 0 = dktX0_seenTo_0 := by decide +kernel
theorem dX0_seenTo_0 : decode cX0_seenTo 0 = .ok (.aload_n 1, 1) := dk_43 (dk_at dksX0_seenTo_0 0 rfl rfl)
theorem dX0_seenTo_1 : decode cX0_seenTo 1 = .ok (.iconst 0, 1) := dk_3 (dk_at dksX0_seenTo_0 1 rfl rfl)
theorem dX0_seenTo_2 : decode cX0_seenTo 2 = .ok (.aload_n 0, 1) := dk_42 (dk_at dksX0_seenTo_0 2 rfl rfl)
theorem dX0_seenTo_3 : decode cX0_seenTo 3 = .ok (.invokevirtual 63, 3) := dk_182 0 63 (dk_at dksX0_seenTo_0 3 rfl rfl)
theorem dX0_seenTo_6 : decode cX0_seenTo 6 = .ok (.i2l, 1) := dk_133 (dk_at dksX0_seenTo_0 6 rfl rfl)
theorem dX0_seenTo_7 : decode cX0_seenTo 7 = .ok (.lastore, 1) := dk_80 (dk_at dksX0_seenTo_0 7 rfl rfl)
theorem dX0_seenTo_8 : decode cX0_seenTo 8 = .ok (.goto 6, 3) := dk_167 0 6 (dk_at dksX0_seenTo_0 8 rfl rfl)
theorem dX0_seenTo_11 : decode cX0_seenTo 11 = .ok (.astore_n 2, 1) := dk_77 (dk_at dksX0_seenTo_0 11 rfl rfl)
theorem dX0_seenTo_12 : decode cX0_seenTo 12 = .ok (.iconst 1, 1) := dk_4 (dk_at dksX0_seenTo_0 12 rfl rfl)
theorem dX0_seenTo_13 : decode cX0_seenTo 13 = .ok (.ireturn, 1) := dk_172 (dk_at dksX0_seenTo_0 13 rfl rfl)
theorem dX0_seenTo_14 : decode cX0_seenTo 14 = .ok (.iconst 0, 1) := dk_3 (dk_at dksX0_seenTo_0 14 rfl rfl)
theorem dX0_seenTo_15 : decode cX0_seenTo 15 = .ok (.ireturn, 1) := dk_172 (dk_at dksX0_seenTo_0 15 rfl rfl)
abbrev cX0_backfeed : ByteArray := method_18_code
def yX0_backfeed : MethodName := ⟨RX0, "backfeed", "(LLabelDriver;[J)I"⟩
def dkwX0_backfeed_0 : List UInt8 := [43, 3, 42, 182, 0, 66, 133, 80, 167, 0, 6, 77, 4, 172, 3, 172]
abbrev dktX0_backfeed_0 : List UInt8 := dkwX0_backfeed_0 ++ []
theorem dksX0_backfeed_0 : cX0_backfeed.data.toList.drop 0 = dktX0_backfeed_0 := by decide +kernel
theorem dX0_backfeed_0 : decode cX0_backfeed 0 = .ok (.aload_n 1, 1) := dk_43 (dk_at dksX0_backfeed_0 0 rfl rfl)
theorem dX0_backfeed_1 : decode cX0_backfeed 1 = .ok (.iconst 0, 1) := dk_3 (dk_at dksX0_backfeed_0 1 rfl rfl)
theorem dX0_backfeed_2 : decode cX0_backfeed 2 = .ok (.aload_n 0, 1) := dk_42 (dk_at dksX0_backfeed_0 2 rfl rfl)
theorem dX0_backfeed_3 : decode cX0_backfeed 3 = .ok (.invokevirtual 66, 3) := dk_182 0 66 (dk_at dksX0_backfeed_0 3 rfl rfl)
theorem dX0_backfeed_6 : decode cX0_backfeed 6 = .ok (.i2l, 1) := dk_133 (dk_at dksX0_backfeed_0 6 rfl rfl)
theorem dX0_backfeed_7 : decode cX0_backfeed 7 = .ok (.lastore, 1) := dk_80 (dk_at dksX0_backfeed_0 7 rfl rfl)
theorem dX0_backfeed_8 : decode cX0_backfeed 8 = .ok (.goto 6, 3) := dk_167 0 6 (dk_at dksX0_backfeed_0 8 rfl rfl)
theorem dX0_backfeed_11 : decode cX0_backfeed 11 = .ok (.astore_n 2, 1) := dk_77 (dk_at dksX0_backfeed_0 11 rfl rfl)
theorem dX0_backfeed_12 : decode cX0_backfeed 12 = .ok (.iconst 1, 1) := dk_4 (dk_at dksX0_backfeed_0 12 rfl rfl)
theorem dX0_backfeed_13 : decode cX0_backfeed 13 = .ok (.ireturn, 1) := dk_172 (dk_at dksX0_backfeed_0 13 rfl rfl)
theorem dX0_backfeed_14 : decode cX0_backfeed 14 = .ok (.iconst 0, 1) := dk_3 (dk_at dksX0_backfeed_0 14 rfl rfl)
theorem dX0_backfeed_15 : decode cX0_backfeed 15 = .ok (.ireturn, 1) := dk_172 (dk_at dksX0_backfeed_0 15 rfl rfl)
abbrev cX0_nextGap : ByteArray := method_19_code
def yX0_nextGap : MethodName := ⟨RX0, "nextGap", "(LLabelDriver;I[J)I"⟩
def dkwX0_nextGap_0 : List UInt8 := [44, 3, 42, 27, 182, 0, 69, 133, 80, 167, 0, 6, 78, 4, 172, 3, 172]
abbrev dktX0_nextGap_0 : List UInt8 := dkwX0_nextGap_0 ++ []
theorem dksX0_nextGap_0 : cX0_nextGap.data.toList.drop 0 = dktX0_nextGap_0 := by decide +kernel
theorem dX0_nextGap_0 : decode cX0_nextGap 0 = .ok (.aload_n 2, 1) := dk_44 (dk_at dksX0_nextGap_0 0 rfl rfl)
theorem dX0_nextGap_1 : decode cX0_nextGap 1 = .ok (.iconst 0, 1) := dk_3 (dk_at dksX0_nextGap_0 1 rfl rfl)
theorem dX0_nextGap_2 : decode cX0_nextGap 2 = .ok (.aload_n 0, 1) := dk_42 (dk_at dksX0_nextGap_0 2 rfl rfl)
theorem dX0_nextGap_3 : decode cX0_nextGap 3 = .ok (.iload_n 1, 1) := dk_27 (dk_at dksX0_nextGap_0 3 rfl rfl)
theorem dX0_nextGap_4 : decode cX0_nextGap 4 = .ok (.invokevirtual 69, 3) := dk_182 0 69 (dk_at dksX0_nextGap_0 4 rfl rfl)
theorem dX0_nextGap_7 : decode cX0_nextGap 7 = .ok (.i2l, 1) := dk_133 (dk_at dksX0_nextGap_0 7 rfl rfl)
theorem dX0_nextGap_8 : decode cX0_nextGap 8 = .ok (.lastore, 1) := dk_80 (dk_at dksX0_nextGap_0 8 rfl rfl)
theorem dX0_nextGap_9 : decode cX0_nextGap 9 = .ok (.goto 6, 3) := dk_167 0 6 (dk_at dksX0_nextGap_0 9 rfl rfl)
theorem dX0_nextGap_12 : decode cX0_nextGap 12 = .ok (.astore_n 3, 1) := dk_78 (dk_at dksX0_nextGap_0 12 rfl rfl)
theorem dX0_nextGap_13 : decode cX0_nextGap 13 = .ok (.iconst 1, 1) := dk_4 (dk_at dksX0_nextGap_0 13 rfl rfl)
theorem dX0_nextGap_14 : decode cX0_nextGap 14 = .ok (.ireturn, 1) := dk_172 (dk_at dksX0_nextGap_0 14 rfl rfl)
theorem dX0_nextGap_15 : decode cX0_nextGap 15 = .ok (.iconst 0, 1) := dk_3 (dk_at dksX0_nextGap_0 15 rfl rfl)
theorem dX0_nextGap_16 : decode cX0_nextGap 16 = .ok (.ireturn, 1) := dk_172 (dk_at dksX0_nextGap_0 16 rfl rfl)
abbrev cX0_tearPlace : ByteArray := method_20_code
def yX0_tearPlace : MethodName := ⟨RX0, "tearPlace", "(LLabelDriver;[J)I"⟩
def dkwX0_tearPlace_0 : List UInt8 := [43, 3, 42, 182, 0, 72, 133, 80, 167, 0, 6, 77, 4, 172, 3, 172]
abbrev dktX0_tearPlace_0 : List UInt8 := dkwX0_tearPlace_0 ++ []
theorem dksX0_tearPlace_0 : cX0_tearPlace.data.toList.drop 0 = dktX0_tearPlace_0 := by decide +kernel
theorem dX0_tearPlace_0 : decode cX0_tearPlace 0 = .ok (.aload_n 1, 1) := dk_43 (dk_at dksX0_tearPlace_0 0 rfl rfl)
theorem dX0_tearPlace_1 : decode cX0_tearPlace 1 = .ok (.iconst 0, 1) := dk_3 (dk_at dksX0_tearPlace_0 1 rfl rfl)
theorem dX0_tearPlace_2 : decode cX0_tearPlace 2 = .ok (.aload_n 0, 1) := dk_42 (dk_at dksX0_tearPlace_0 2 rfl rfl)
theorem dX0_tearPlace_3 : decode cX0_tearPlace 3 = .ok (.invokevirtual 72, 3) := dk_182 0 72 (dk_at dksX0_tearPlace_0 3 rfl rfl)
theorem dX0_tearPlace_6 : decode cX0_tearPlace 6 = .ok (.i2l, 1) := dk_133 (dk_at dksX0_tearPlace_0 6 rfl rfl)
theorem dX0_tearPlace_7 : decode cX0_tearPlace 7 = .ok (.lastore, 1) := dk_80 (dk_at dksX0_tearPlace_0 7 rfl rfl)
theorem dX0_tearPlace_8 : decode cX0_tearPlace 8 = .ok (.goto 6, 3) := dk_167 0 6 (dk_at dksX0_tearPlace_0 8 rfl rfl)
theorem dX0_tearPlace_11 : decode cX0_tearPlace 11 = .ok (.astore_n 2, 1) := dk_77 (dk_at dksX0_tearPlace_0 11 rfl rfl)
theorem dX0_tearPlace_12 : decode cX0_tearPlace 12 = .ok (.iconst 1, 1) := dk_4 (dk_at dksX0_tearPlace_0 12 rfl rfl)
theorem dX0_tearPlace_13 : decode cX0_tearPlace 13 = .ok (.ireturn, 1) := dk_172 (dk_at dksX0_tearPlace_0 13 rfl rfl)
theorem dX0_tearPlace_14 : decode cX0_tearPlace 14 = .ok (.iconst 0, 1) := dk_3 (dk_at dksX0_tearPlace_0 14 rfl rfl)
theorem dX0_tearPlace_15 : decode cX0_tearPlace 15 = .ok (.ireturn, 1) := dk_172 (dk_at dksX0_tearPlace_0 15 rfl rfl)
abbrev cX0_batchField : ByteArray := method_21_code
def yX0_batchField : MethodName := ⟨RX0, "batchField", "(LLabelDriver;II[J)I"⟩
def dkwX0_batchField_0 : List UInt8 := [45, 3, 42, 27, 28, 182, 0, 75, 133, 80, 167, 0, 11, 58, 4, 4, 172, 58, 4, 5, 172, 3, 172]
abbrev dktX0_batchField_0 : List UInt8 := dkwX0_batchField_0 ++ []
theorem dksX0_batchField_0 : cX0_batchField.data.toList.drop 0 = dktX0_batchField_0 := by decide +kernel
theorem dX0_batchField_0 : decode cX0_batchField 0 = .ok (.aload_n 3, 1) := dk_45 (dk_at dksX0_batchField_0 0 rfl rfl)
theorem dX0_batchField_1 : decode cX0_batchField 1 = .ok (.iconst 0, 1) := dk_3 (dk_at dksX0_batchField_0 1 rfl rfl)
theorem dX0_batchField_2 : decode cX0_batchField 2 = .ok (.aload_n 0, 1) := dk_42 (dk_at dksX0_batchField_0 2 rfl rfl)
theorem dX0_batchField_3 : decode cX0_batchField 3 = .ok (.iload_n 1, 1) := dk_27 (dk_at dksX0_batchField_0 3 rfl rfl)
theorem dX0_batchField_4 : decode cX0_batchField 4 = .ok (.iload_n 2, 1) := dk_28 (dk_at dksX0_batchField_0 4 rfl rfl)
theorem dX0_batchField_5 : decode cX0_batchField 5 = .ok (.invokevirtual 75, 3) := dk_182 0 75 (dk_at dksX0_batchField_0 5 rfl rfl)
theorem dX0_batchField_8 : decode cX0_batchField 8 = .ok (.i2l, 1) := dk_133 (dk_at dksX0_batchField_0 8 rfl rfl)
theorem dX0_batchField_9 : decode cX0_batchField 9 = .ok (.lastore, 1) := dk_80 (dk_at dksX0_batchField_0 9 rfl rfl)
theorem dX0_batchField_10 : decode cX0_batchField 10 = .ok (.goto 11, 3) := dk_167 0 11 (dk_at dksX0_batchField_0 10 rfl rfl)
theorem dX0_batchField_13 : decode cX0_batchField 13 = .ok (.astore 4, 2) := dk_58 4 (dk_at dksX0_batchField_0 13 rfl rfl)
theorem dX0_batchField_15 : decode cX0_batchField 15 = .ok (.iconst 1, 1) := dk_4 (dk_at dksX0_batchField_0 15 rfl rfl)
theorem dX0_batchField_16 : decode cX0_batchField 16 = .ok (.ireturn, 1) := dk_172 (dk_at dksX0_batchField_0 16 rfl rfl)
theorem dX0_batchField_17 : decode cX0_batchField 17 = .ok (.astore 4, 2) := dk_58 4 (dk_at dksX0_batchField_0 17 rfl rfl)
theorem dX0_batchField_19 : decode cX0_batchField 19 = .ok (.iconst 2, 1) := dk_5 (dk_at dksX0_batchField_0 19 rfl rfl)
theorem dX0_batchField_20 : decode cX0_batchField 20 = .ok (.ireturn, 1) := dk_172 (dk_at dksX0_batchField_0 20 rfl rfl)
theorem dX0_batchField_21 : decode cX0_batchField 21 = .ok (.iconst 0, 1) := dk_3 (dk_at dksX0_batchField_0 21 rfl rfl)
theorem dX0_batchField_22 : decode cX0_batchField 22 = .ok (.ireturn, 1) := dk_172 (dk_at dksX0_batchField_0 22 rfl rfl)
abbrev cX0_number : ByteArray := method_22_code
def yX0_number : MethodName := ⟨RX0, "number", "(LLabelDriver;II[J)I"⟩
def dkwX0_number_0 : List UInt8 := [45, 3, 42, 27, 28, 182, 0, 78, 133, 80, 167, 0, 7, 58, 4, 4, 172, 3, 172]
abbrev dktX0_number_0 : List UInt8 := dkwX0_number_0 ++ []
theorem dksX0_number_0 : cX0_number.data.toList.drop 0 = dktX0_number_0 := by decide +kernel
theorem dX0_number_0 : decode cX0_number 0 = .ok (.aload_n 3, 1) := dk_45 (dk_at dksX0_number_0 0 rfl rfl)
theorem dX0_number_1 : decode cX0_number 1 = .ok (.iconst 0, 1) := dk_3 (dk_at dksX0_number_0 1 rfl rfl)
theorem dX0_number_2 : decode cX0_number 2 = .ok (.aload_n 0, 1) := dk_42 (dk_at dksX0_number_0 2 rfl rfl)
theorem dX0_number_3 : decode cX0_number 3 = .ok (.iload_n 1, 1) := dk_27 (dk_at dksX0_number_0 3 rfl rfl)
theorem dX0_number_4 : decode cX0_number 4 = .ok (.iload_n 2, 1) := dk_28 (dk_at dksX0_number_0 4 rfl rfl)
theorem dX0_number_5 : decode cX0_number 5 = .ok (.invokevirtual 78, 3) := dk_182 0 78 (dk_at dksX0_number_0 5 rfl rfl)
theorem dX0_number_8 : decode cX0_number 8 = .ok (.i2l, 1) := dk_133 (dk_at dksX0_number_0 8 rfl rfl)
theorem dX0_number_9 : decode cX0_number 9 = .ok (.lastore, 1) := dk_80 (dk_at dksX0_number_0 9 rfl rfl)
theorem dX0_number_10 : decode cX0_number 10 = .ok (.goto 7, 3) := dk_167 0 7 (dk_at dksX0_number_0 10 rfl rfl)
theorem dX0_number_13 : decode cX0_number 13 = .ok (.astore 4, 2) := dk_58 4 (dk_at dksX0_number_0 13 rfl rfl)
theorem dX0_number_15 : decode cX0_number 15 = .ok (.iconst 1, 1) := dk_4 (dk_at dksX0_number_0 15 rfl rfl)
theorem dX0_number_16 : decode cX0_number 16 = .ok (.ireturn, 1) := dk_172 (dk_at dksX0_number_0 16 rfl rfl)
theorem dX0_number_17 : decode cX0_number 17 = .ok (.iconst 0, 1) := dk_3 (dk_at dksX0_number_0 17 rfl rfl)
theorem dX0_number_18 : decode cX0_number 18 = .ok (.ireturn, 1) := dk_172 (dk_at dksX0_number_0 18 rfl rfl)
abbrev cX0_checkDigit : ByteArray := method_23_code
def yX0_checkDigit : MethodName := ⟨RX0, "checkDigit", "(LLabelDriver;II[J)I"⟩
def dkwX0_checkDigit_0 : List UInt8 := [45, 3, 42, 27, 28, 182, 0, 81, 133, 80, 167, 0, 7, 58, 4, 4, 172, 3, 172]
abbrev dktX0_checkDigit_0 : List UInt8 := dkwX0_checkDigit_0 ++ []
theorem dksX0_checkDigit_0 : cX0_checkDigit.data.toList.drop 0 = dktX0_checkDigit_0 := by decide +kernel
theorem dX0_checkDigit_0 : decode cX0_checkDigit 0 = .ok (.aload_n 3, 1) := dk_45 (dk_at dksX0_checkDigit_0 0 rfl rfl)
theorem dX0_checkDigit_1 : decode cX0_checkDigit 1 = .ok (.iconst 0, 1) := dk_3 (dk_at dksX0_checkDigit_0 1 rfl rfl)
theorem dX0_checkDigit_2 : decode cX0_checkDigit 2 = .ok (.aload_n 0, 1) := dk_42 (dk_at dksX0_checkDigit_0 2 rfl rfl)
theorem dX0_checkDigit_3 : decode cX0_checkDigit 3 = .ok (.iload_n 1, 1) := dk_27 (dk_at dksX0_checkDigit_0 3 rfl rfl)
theorem dX0_checkDigit_4 : decode cX0_checkDigit 4 = .ok (.iload_n 2, 1) := dk_28 (dk_at dksX0_checkDigit_0 4 rfl rfl)
theorem dX0_checkDigit_5 : decode cX0_checkDigit 5 = .ok (.invokevirtual 81, 3) := dk_182 0 81 (dk_at dksX0_checkDigit_0 5 rfl rfl)
theorem dX0_checkDigit_8 : decode cX0_checkDigit 8 = .ok (.i2l, 1) := dk_133 (dk_at dksX0_checkDigit_0 8 rfl rfl)
theorem dX0_checkDigit_9 : decode cX0_checkDigit 9 = .ok (.lastore, 1) := dk_80 (dk_at dksX0_checkDigit_0 9 rfl rfl)
theorem dX0_checkDigit_10 : decode cX0_checkDigit 10 = .ok (.goto 7, 3) := dk_167 0 7 (dk_at dksX0_checkDigit_0 10 rfl rfl)
theorem dX0_checkDigit_13 : decode cX0_checkDigit 13 = .ok (.astore 4, 2) := dk_58 4 (dk_at dksX0_checkDigit_0 13 rfl rfl)
theorem dX0_checkDigit_15 : decode cX0_checkDigit 15 = .ok (.iconst 1, 1) := dk_4 (dk_at dksX0_checkDigit_0 15 rfl rfl)
theorem dX0_checkDigit_16 : decode cX0_checkDigit 16 = .ok (.ireturn, 1) := dk_172 (dk_at dksX0_checkDigit_0 16 rfl rfl)
theorem dX0_checkDigit_17 : decode cX0_checkDigit 17 = .ok (.iconst 0, 1) := dk_3 (dk_at dksX0_checkDigit_0 17 rfl rfl)
theorem dX0_checkDigit_18 : decode cX0_checkDigit 18 = .ok (.ireturn, 1) := dk_172 (dk_at dksX0_checkDigit_0 18 rfl rfl)
abbrev cX0_stateOf : ByteArray := method_24_code
def yX0_stateOf : MethodName := ⟨RX0, "stateOf", "(LLabelDriver;II[J)I"⟩
def dkwX0_stateOf_0 : List UInt8 := [45, 3, 42, 27, 28, 182, 0, 84, 133, 80, 167, 0, 7, 58, 4, 4, 172, 3, 172]
abbrev dktX0_stateOf_0 : List UInt8 := dkwX0_stateOf_0 ++ []
theorem dksX0_stateOf_0 : cX0_stateOf.data.toList.drop 0 = dktX0_stateOf_0 := by decide +kernel
theorem dX0_stateOf_0 : decode cX0_stateOf 0 = .ok (.aload_n 3, 1) := dk_45 (dk_at dksX0_stateOf_0 0 rfl rfl)
theorem dX0_stateOf_1 : decode cX0_stateOf 1 = .ok (.iconst 0, 1) := dk_3 (dk_at dksX0_stateOf_0 1 rfl rfl)
theorem dX0_stateOf_2 : decode cX0_stateOf 2 = .ok (.aload_n 0, 1) := dk_42 (dk_at dksX0_stateOf_0 2 rfl rfl)
theorem dX0_stateOf_3 : decode cX0_stateOf 3 = .ok (.iload_n 1, 1) := dk_27 (dk_at dksX0_stateOf_0 3 rfl rfl)
theorem dX0_stateOf_4 : decode cX0_stateOf 4 = .ok (.iload_n 2, 1) := dk_28 (dk_at dksX0_stateOf_0 4 rfl rfl)
theorem dX0_stateOf_5 : decode cX0_stateOf 5 = .ok (.invokevirtual 84, 3) := dk_182 0 84 (dk_at dksX0_stateOf_0 5 rfl rfl)
theorem dX0_stateOf_8 : decode cX0_stateOf 8 = .ok (.i2l, 1) := dk_133 (dk_at dksX0_stateOf_0 8 rfl rfl)
theorem dX0_stateOf_9 : decode cX0_stateOf 9 = .ok (.lastore, 1) := dk_80 (dk_at dksX0_stateOf_0 9 rfl rfl)
theorem dX0_stateOf_10 : decode cX0_stateOf 10 = .ok (.goto 7, 3) := dk_167 0 7 (dk_at dksX0_stateOf_0 10 rfl rfl)
theorem dX0_stateOf_13 : decode cX0_stateOf 13 = .ok (.astore 4, 2) := dk_58 4 (dk_at dksX0_stateOf_0 13 rfl rfl)
theorem dX0_stateOf_15 : decode cX0_stateOf 15 = .ok (.iconst 1, 1) := dk_4 (dk_at dksX0_stateOf_0 15 rfl rfl)
theorem dX0_stateOf_16 : decode cX0_stateOf 16 = .ok (.ireturn, 1) := dk_172 (dk_at dksX0_stateOf_0 16 rfl rfl)
theorem dX0_stateOf_17 : decode cX0_stateOf 17 = .ok (.iconst 0, 1) := dk_3 (dk_at dksX0_stateOf_0 17 rfl rfl)
theorem dX0_stateOf_18 : decode cX0_stateOf 18 = .ok (.ireturn, 1) := dk_172 (dk_at dksX0_stateOf_0 18 rfl rfl)
abbrev cX0_attempts : ByteArray := method_25_code
def yX0_attempts : MethodName := ⟨RX0, "attempts", "(LLabelDriver;II[J)I"⟩
def dkwX0_attempts_0 : List UInt8 := [45, 3, 42, 27, 28, 182, 0, 87, 133, 80, 167, 0, 7, 58, 4, 4, 172, 3, 172]
abbrev dktX0_attempts_0 : List UInt8 := dkwX0_attempts_0 ++ []
theorem dksX0_attempts_0 : cX0_attempts.data.toList.drop 0 = dktX0_attempts_0 := by decide +kernel
theorem dX0_attempts_0 : decode cX0_attempts 0 = .ok (.aload_n 3, 1) := dk_45 (dk_at dksX0_attempts_0 0 rfl rfl)
theorem dX0_attempts_1 : decode cX0_attempts 1 = .ok (.iconst 0, 1) := dk_3 (dk_at dksX0_attempts_0 1 rfl rfl)
theorem dX0_attempts_2 : decode cX0_attempts 2 = .ok (.aload_n 0, 1) := dk_42 (dk_at dksX0_attempts_0 2 rfl rfl)
theorem dX0_attempts_3 : decode cX0_attempts 3 = .ok (.iload_n 1, 1) := dk_27 (dk_at dksX0_attempts_0 3 rfl rfl)
theorem dX0_attempts_4 : decode cX0_attempts 4 = .ok (.iload_n 2, 1) := dk_28 (dk_at dksX0_attempts_0 4 rfl rfl)
theorem dX0_attempts_5 : decode cX0_attempts 5 = .ok (.invokevirtual 87, 3) := dk_182 0 87 (dk_at dksX0_attempts_0 5 rfl rfl)
theorem dX0_attempts_8 : decode cX0_attempts 8 = .ok (.i2l, 1) := dk_133 (dk_at dksX0_attempts_0 8 rfl rfl)
theorem dX0_attempts_9 : decode cX0_attempts 9 = .ok (.lastore, 1) := dk_80 (dk_at dksX0_attempts_0 9 rfl rfl)
theorem dX0_attempts_10 : decode cX0_attempts 10 = .ok (.goto 7, 3) := dk_167 0 7 (dk_at dksX0_attempts_0 10 rfl rfl)
theorem dX0_attempts_13 : decode cX0_attempts 13 = .ok (.astore 4, 2) := dk_58 4 (dk_at dksX0_attempts_0 13 rfl rfl)
theorem dX0_attempts_15 : decode cX0_attempts 15 = .ok (.iconst 1, 1) := dk_4 (dk_at dksX0_attempts_0 15 rfl rfl)
theorem dX0_attempts_16 : decode cX0_attempts 16 = .ok (.ireturn, 1) := dk_172 (dk_at dksX0_attempts_0 16 rfl rfl)
theorem dX0_attempts_17 : decode cX0_attempts 17 = .ok (.iconst 0, 1) := dk_3 (dk_at dksX0_attempts_0 17 rfl rfl)
theorem dX0_attempts_18 : decode cX0_attempts 18 = .ok (.ireturn, 1) := dk_172 (dk_at dksX0_attempts_0 18 rfl rfl)
abbrev cX0_countOf : ByteArray := method_26_code
def yX0_countOf : MethodName := ⟨RX0, "countOf", "(LLabelDriver;II[J)I"⟩
def dkwX0_countOf_0 : List UInt8 := [45, 3, 42, 27, 28, 182, 0, 90, 133, 80, 167, 0, 11, 58, 4, 4, 172, 58, 4, 5, 172, 3, 172]
abbrev dktX0_countOf_0 : List UInt8 := dkwX0_countOf_0 ++ []
theorem dksX0_countOf_0 : cX0_countOf.data.toList.drop 0 = dktX0_countOf_0 := by decide +kernel
theorem dX0_countOf_0 : decode cX0_countOf 0 = .ok (.aload_n 3, 1) := dk_45 (dk_at dksX0_countOf_0 0 rfl rfl)
theorem dX0_countOf_1 : decode cX0_countOf 1 = .ok (.iconst 0, 1) := dk_3 (dk_at dksX0_countOf_0 1 rfl rfl)
theorem dX0_countOf_2 : decode cX0_countOf 2 = .ok (.aload_n 0, 1) := dk_42 (dk_at dksX0_countOf_0 2 rfl rfl)
theorem dX0_countOf_3 : decode cX0_countOf 3 = .ok (.iload_n 1, 1) := dk_27 (dk_at dksX0_countOf_0 3 rfl rfl)
theorem dX0_countOf_4 : decode cX0_countOf 4 = .ok (.iload_n 2, 1) := dk_28 (dk_at dksX0_countOf_0 4 rfl rfl)
theorem dX0_countOf_5 : decode cX0_countOf 5 = .ok (.invokevirtual 90, 3) := dk_182 0 90 (dk_at dksX0_countOf_0 5 rfl rfl)
theorem dX0_countOf_8 : decode cX0_countOf 8 = .ok (.i2l, 1) := dk_133 (dk_at dksX0_countOf_0 8 rfl rfl)
theorem dX0_countOf_9 : decode cX0_countOf 9 = .ok (.lastore, 1) := dk_80 (dk_at dksX0_countOf_0 9 rfl rfl)
theorem dX0_countOf_10 : decode cX0_countOf 10 = .ok (.goto 11, 3) := dk_167 0 11 (dk_at dksX0_countOf_0 10 rfl rfl)
theorem dX0_countOf_13 : decode cX0_countOf 13 = .ok (.astore 4, 2) := dk_58 4 (dk_at dksX0_countOf_0 13 rfl rfl)
theorem dX0_countOf_15 : decode cX0_countOf 15 = .ok (.iconst 1, 1) := dk_4 (dk_at dksX0_countOf_0 15 rfl rfl)
theorem dX0_countOf_16 : decode cX0_countOf 16 = .ok (.ireturn, 1) := dk_172 (dk_at dksX0_countOf_0 16 rfl rfl)
theorem dX0_countOf_17 : decode cX0_countOf 17 = .ok (.astore 4, 2) := dk_58 4 (dk_at dksX0_countOf_0 17 rfl rfl)
theorem dX0_countOf_19 : decode cX0_countOf 19 = .ok (.iconst 2, 1) := dk_5 (dk_at dksX0_countOf_0 19 rfl rfl)
theorem dX0_countOf_20 : decode cX0_countOf 20 = .ok (.ireturn, 1) := dk_172 (dk_at dksX0_countOf_0 20 rfl rfl)
theorem dX0_countOf_21 : decode cX0_countOf 21 = .ok (.iconst 0, 1) := dk_3 (dk_at dksX0_countOf_0 21 rfl rfl)
theorem dX0_countOf_22 : decode cX0_countOf 22 = .ok (.ireturn, 1) := dk_172 (dk_at dksX0_countOf_0 22 rfl rfl)
abbrev cX0_printedAs : ByteArray := method_27_code
def yX0_printedAs : MethodName := ⟨RX0, "printedAs", "(LLabelDriver;I[J)I"⟩
def dkwX0_printedAs_0 : List UInt8 := [44, 3, 42, 27, 182, 0, 93, 133, 80, 167, 0, 6, 78, 4, 172, 3, 172]
abbrev dktX0_printedAs_0 : List UInt8 := dkwX0_printedAs_0 ++ []
theorem dksX0_printedAs_0 : cX0_printedAs.data.toList.drop 0 = dktX0_printedAs_0 := by decide +kernel
theorem dX0_printedAs_0 : decode cX0_printedAs 0 = .ok (.aload_n 2, 1) := dk_44 (dk_at dksX0_printedAs_0 0 rfl rfl)
theorem dX0_printedAs_1 : decode cX0_printedAs 1 = .ok (.iconst 0, 1) := dk_3 (dk_at dksX0_printedAs_0 1 rfl rfl)
theorem dX0_printedAs_2 : decode cX0_printedAs 2 = .ok (.aload_n 0, 1) := dk_42 (dk_at dksX0_printedAs_0 2 rfl rfl)
theorem dX0_printedAs_3 : decode cX0_printedAs 3 = .ok (.iload_n 1, 1) := dk_27 (dk_at dksX0_printedAs_0 3 rfl rfl)
theorem dX0_printedAs_4 : decode cX0_printedAs 4 = .ok (.invokevirtual 93, 3) := dk_182 0 93 (dk_at dksX0_printedAs_0 4 rfl rfl)
theorem dX0_printedAs_7 : decode cX0_printedAs 7 = .ok (.i2l, 1) := dk_133 (dk_at dksX0_printedAs_0 7 rfl rfl)
theorem dX0_printedAs_8 : decode cX0_printedAs 8 = .ok (.lastore, 1) := dk_80 (dk_at dksX0_printedAs_0 8 rfl rfl)
theorem dX0_printedAs_9 : decode cX0_printedAs 9 = .ok (.goto 6, 3) := dk_167 0 6 (dk_at dksX0_printedAs_0 9 rfl rfl)
theorem dX0_printedAs_12 : decode cX0_printedAs 12 = .ok (.astore_n 3, 1) := dk_78 (dk_at dksX0_printedAs_0 12 rfl rfl)
theorem dX0_printedAs_13 : decode cX0_printedAs 13 = .ok (.iconst 1, 1) := dk_4 (dk_at dksX0_printedAs_0 13 rfl rfl)
theorem dX0_printedAs_14 : decode cX0_printedAs 14 = .ok (.ireturn, 1) := dk_172 (dk_at dksX0_printedAs_0 14 rfl rfl)
theorem dX0_printedAs_15 : decode cX0_printedAs 15 = .ok (.iconst 0, 1) := dk_3 (dk_at dksX0_printedAs_0 15 rfl rfl)
theorem dX0_printedAs_16 : decode cX0_printedAs 16 = .ok (.ireturn, 1) := dk_172 (dk_at dksX0_printedAs_0 16 rfl rfl)
abbrev cX0_verify : ByteArray := method_28_code
def yX0_verify : MethodName := ⟨RX0, "verify", "(LLabelDriver;III[J)I"⟩
def dkwX0_verify_0 : List UInt8 := [25, 4, 3, 42, 27, 28, 29, 182, 0, 96, 133, 80, 167, 0, 7, 58, 5, 4, 172, 3, 172]
abbrev dktX0_verify_0 : List UInt8 := dkwX0_verify_0 ++ []
theorem dksX0_verify_0 : cX0_verify.data.toList.drop 0 = dktX0_verify_0 := by decide +kernel
theorem dX0_verify_0 : decode cX0_verify 0 = .ok (.aload 4, 2) := dk_25 4 (dk_at dksX0_verify_0 0 rfl rfl)
theorem dX0_verify_2 : decode cX0_verify 2 = .ok (.iconst 0, 1) := dk_3 (dk_at dksX0_verify_0 2 rfl rfl)
theorem dX0_verify_3 : decode cX0_verify 3 = .ok (.aload_n 0, 1) := dk_42 (dk_at dksX0_verify_0 3 rfl rfl)
theorem dX0_verify_4 : decode cX0_verify 4 = .ok (.iload_n 1, 1) := dk_27 (dk_at dksX0_verify_0 4 rfl rfl)
theorem dX0_verify_5 : decode cX0_verify 5 = .ok (.iload_n 2, 1) := dk_28 (dk_at dksX0_verify_0 5 rfl rfl)
theorem dX0_verify_6 : decode cX0_verify 6 = .ok (.iload_n 3, 1) := dk_29 (dk_at dksX0_verify_0 6 rfl rfl)
theorem dX0_verify_7 : decode cX0_verify 7 = .ok (.invokevirtual 96, 3) := dk_182 0 96 (dk_at dksX0_verify_0 7 rfl rfl)
theorem dX0_verify_10 : decode cX0_verify 10 = .ok (.i2l, 1) := dk_133 (dk_at dksX0_verify_0 10 rfl rfl)
theorem dX0_verify_11 : decode cX0_verify 11 = .ok (.lastore, 1) := dk_80 (dk_at dksX0_verify_0 11 rfl rfl)
theorem dX0_verify_12 : decode cX0_verify 12 = .ok (.goto 7, 3) := dk_167 0 7 (dk_at dksX0_verify_0 12 rfl rfl)
theorem dX0_verify_15 : decode cX0_verify 15 = .ok (.astore 5, 2) := dk_58 5 (dk_at dksX0_verify_0 15 rfl rfl)
theorem dX0_verify_17 : decode cX0_verify 17 = .ok (.iconst 1, 1) := dk_4 (dk_at dksX0_verify_0 17 rfl rfl)
theorem dX0_verify_18 : decode cX0_verify 18 = .ok (.ireturn, 1) := dk_172 (dk_at dksX0_verify_0 18 rfl rfl)
theorem dX0_verify_19 : decode cX0_verify 19 = .ok (.iconst 0, 1) := dk_3 (dk_at dksX0_verify_0 19 rfl rfl)
theorem dX0_verify_20 : decode cX0_verify 20 = .ok (.ireturn, 1) := dk_172 (dk_at dksX0_verify_0 20 rfl rfl)
abbrev cX0_run : ByteArray := method_29_code
def yX0_run : MethodName := ⟨RX0, "run", "(LLabelDriver;I[J)I"⟩
def dkwX0_run_0 : List UInt8 := [44, 3, 42, 27, 182, 0, 100, 133, 80, 167, 0, 9, 78, 4, 172, 78, 5, 172, 3, 172]
abbrev dktX0_run_0 : List UInt8 := dkwX0_run_0 ++ []
theorem dksX0_run_0 : cX0_run.data.toList.drop 0 = dktX0_run_0 := by decide +kernel
theorem dX0_run_0 : decode cX0_run 0 = .ok (.aload_n 2, 1) := dk_44 (dk_at dksX0_run_0 0 rfl rfl)
theorem dX0_run_1 : decode cX0_run 1 = .ok (.iconst 0, 1) := dk_3 (dk_at dksX0_run_0 1 rfl rfl)
theorem dX0_run_2 : decode cX0_run 2 = .ok (.aload_n 0, 1) := dk_42 (dk_at dksX0_run_0 2 rfl rfl)
theorem dX0_run_3 : decode cX0_run 3 = .ok (.iload_n 1, 1) := dk_27 (dk_at dksX0_run_0 3 rfl rfl)
theorem dX0_run_4 : decode cX0_run 4 = .ok (.invokevirtual 100, 3) := dk_182 0 100 (dk_at dksX0_run_0 4 rfl rfl)
theorem dX0_run_7 : decode cX0_run 7 = .ok (.i2l, 1) := dk_133 (dk_at dksX0_run_0 7 rfl rfl)
theorem dX0_run_8 : decode cX0_run 8 = .ok (.lastore, 1) := dk_80 (dk_at dksX0_run_0 8 rfl rfl)
theorem dX0_run_9 : decode cX0_run 9 = .ok (.goto 9, 3) := dk_167 0 9 (dk_at dksX0_run_0 9 rfl rfl)
theorem dX0_run_12 : decode cX0_run 12 = .ok (.astore_n 3, 1) := dk_78 (dk_at dksX0_run_0 12 rfl rfl)
theorem dX0_run_13 : decode cX0_run 13 = .ok (.iconst 1, 1) := dk_4 (dk_at dksX0_run_0 13 rfl rfl)
theorem dX0_run_14 : decode cX0_run 14 = .ok (.ireturn, 1) := dk_172 (dk_at dksX0_run_0 14 rfl rfl)
theorem dX0_run_15 : decode cX0_run 15 = .ok (.astore_n 3, 1) := dk_78 (dk_at dksX0_run_0 15 rfl rfl)
theorem dX0_run_16 : decode cX0_run 16 = .ok (.iconst 2, 1) := dk_5 (dk_at dksX0_run_0 16 rfl rfl)
theorem dX0_run_17 : decode cX0_run 17 = .ok (.ireturn, 1) := dk_172 (dk_at dksX0_run_0 17 rfl rfl)
theorem dX0_run_18 : decode cX0_run 18 = .ok (.iconst 0, 1) := dk_3 (dk_at dksX0_run_0 18 rfl rfl)
theorem dX0_run_19 : decode cX0_run 19 = .ok (.ireturn, 1) := dk_172 (dk_at dksX0_run_0 19 rfl rfl)
abbrev cX0_wouldRun : ByteArray := method_30_code
def yX0_wouldRun : MethodName := ⟨RX0, "wouldRun", "(LLabelDriver;II[J)I"⟩
def dkwX0_wouldRun_1 : List UInt8 := [172, 3, 172]
abbrev dktX0_wouldRun_1 : List UInt8 := dkwX0_wouldRun_1 ++ []
def dkwX0_wouldRun_0 : List UInt8 := [45, 3, 42, 27, 28, 182, 0, 103, 133, 80, 167, 0, 15, 58, 4, 4, 172, 58, 4, 5, 172, 58, 4, 6]
abbrev dktX0_wouldRun_0 : List UInt8 := dkwX0_wouldRun_0 ++ dktX0_wouldRun_1
theorem dksX0_wouldRun_0 : cX0_wouldRun.data.toList.drop 0 = dktX0_wouldRun_0 := by decide +kernel
theorem dksX0_wouldRun_1 : cX0_wouldRun.data.toList.drop 24 = dktX0_wouldRun_1 := dk_seg dksX0_wouldRun_0 24 rfl rfl
theorem dX0_wouldRun_0 : decode cX0_wouldRun 0 = .ok (.aload_n 3, 1) := dk_45 (dk_at dksX0_wouldRun_0 0 rfl rfl)
theorem dX0_wouldRun_1 : decode cX0_wouldRun 1 = .ok (.iconst 0, 1) := dk_3 (dk_at dksX0_wouldRun_0 1 rfl rfl)
theorem dX0_wouldRun_2 : decode cX0_wouldRun 2 = .ok (.aload_n 0, 1) := dk_42 (dk_at dksX0_wouldRun_0 2 rfl rfl)
theorem dX0_wouldRun_3 : decode cX0_wouldRun 3 = .ok (.iload_n 1, 1) := dk_27 (dk_at dksX0_wouldRun_0 3 rfl rfl)
theorem dX0_wouldRun_4 : decode cX0_wouldRun 4 = .ok (.iload_n 2, 1) := dk_28 (dk_at dksX0_wouldRun_0 4 rfl rfl)
theorem dX0_wouldRun_5 : decode cX0_wouldRun 5 = .ok (.invokevirtual 103, 3) := dk_182 0 103 (dk_at dksX0_wouldRun_0 5 rfl rfl)
theorem dX0_wouldRun_8 : decode cX0_wouldRun 8 = .ok (.i2l, 1) := dk_133 (dk_at dksX0_wouldRun_0 8 rfl rfl)
theorem dX0_wouldRun_9 : decode cX0_wouldRun 9 = .ok (.lastore, 1) := dk_80 (dk_at dksX0_wouldRun_0 9 rfl rfl)
theorem dX0_wouldRun_10 : decode cX0_wouldRun 10 = .ok (.goto 15, 3) := dk_167 0 15 (dk_at dksX0_wouldRun_0 10 rfl rfl)
theorem dX0_wouldRun_13 : decode cX0_wouldRun 13 = .ok (.astore 4, 2) := dk_58 4 (dk_at dksX0_wouldRun_0 13 rfl rfl)
theorem dX0_wouldRun_15 : decode cX0_wouldRun 15 = .ok (.iconst 1, 1) := dk_4 (dk_at dksX0_wouldRun_0 15 rfl rfl)
theorem dX0_wouldRun_16 : decode cX0_wouldRun 16 = .ok (.ireturn, 1) := dk_172 (dk_at dksX0_wouldRun_0 16 rfl rfl)
theorem dX0_wouldRun_17 : decode cX0_wouldRun 17 = .ok (.astore 4, 2) := dk_58 4 (dk_at dksX0_wouldRun_0 17 rfl rfl)
theorem dX0_wouldRun_19 : decode cX0_wouldRun 19 = .ok (.iconst 2, 1) := dk_5 (dk_at dksX0_wouldRun_0 19 rfl rfl)
theorem dX0_wouldRun_20 : decode cX0_wouldRun 20 = .ok (.ireturn, 1) := dk_172 (dk_at dksX0_wouldRun_0 20 rfl rfl)
theorem dX0_wouldRun_21 : decode cX0_wouldRun 21 = .ok (.astore 4, 2) := dk_58 4 (dk_at dksX0_wouldRun_0 21 rfl rfl)
theorem dX0_wouldRun_23 : decode cX0_wouldRun 23 = .ok (.iconst 3, 1) := dk_6 (dk_at dksX0_wouldRun_0 23 rfl rfl)
theorem dX0_wouldRun_24 : decode cX0_wouldRun 24 = .ok (.ireturn, 1) := dk_172 (dk_at dksX0_wouldRun_1 0 rfl rfl)
theorem dX0_wouldRun_25 : decode cX0_wouldRun 25 = .ok (.iconst 0, 1) := dk_3 (dk_at dksX0_wouldRun_1 1 rfl rfl)
theorem dX0_wouldRun_26 : decode cX0_wouldRun 26 = .ok (.ireturn, 1) := dk_172 (dk_at dksX0_wouldRun_1 2 rfl rfl)
abbrev cX0_logField : ByteArray := method_31_code
def yX0_logField : MethodName := ⟨RX0, "logField", "(LLabelDriver;II[J)I"⟩
def dkwX0_logField_0 : List UInt8 := [45, 3, 42, 27, 28, 182, 0, 106, 133, 80, 167, 0, 7, 58, 4, 4, 172, 3, 172]
abbrev dktX0_logField_0 : List UInt8 := dkwX0_logField_0 ++ []
theorem dksX0_logField_0 : cX0_logField.data.toList.drop 0 = dktX0_logField_0 := by decide +kernel
theorem dX0_logField_0 : decode cX0_logField 0 = .ok (.aload_n 3, 1) := dk_45 (dk_at dksX0_logField_0 0 rfl rfl)
theorem dX0_logField_1 : decode cX0_logField 1 = .ok (.iconst 0, 1) := dk_3 (dk_at dksX0_logField_0 1 rfl rfl)
theorem dX0_logField_2 : decode cX0_logField 2 = .ok (.aload_n 0, 1) := dk_42 (dk_at dksX0_logField_0 2 rfl rfl)
theorem dX0_logField_3 : decode cX0_logField 3 = .ok (.iload_n 1, 1) := dk_27 (dk_at dksX0_logField_0 3 rfl rfl)
theorem dX0_logField_4 : decode cX0_logField 4 = .ok (.iload_n 2, 1) := dk_28 (dk_at dksX0_logField_0 4 rfl rfl)
theorem dX0_logField_5 : decode cX0_logField 5 = .ok (.invokevirtual 106, 3) := dk_182 0 106 (dk_at dksX0_logField_0 5 rfl rfl)
theorem dX0_logField_8 : decode cX0_logField 8 = .ok (.i2l, 1) := dk_133 (dk_at dksX0_logField_0 8 rfl rfl)
theorem dX0_logField_9 : decode cX0_logField 9 = .ok (.lastore, 1) := dk_80 (dk_at dksX0_logField_0 9 rfl rfl)
theorem dX0_logField_10 : decode cX0_logField 10 = .ok (.goto 7, 3) := dk_167 0 7 (dk_at dksX0_logField_0 10 rfl rfl)
theorem dX0_logField_13 : decode cX0_logField 13 = .ok (.astore 4, 2) := dk_58 4 (dk_at dksX0_logField_0 13 rfl rfl)
theorem dX0_logField_15 : decode cX0_logField 15 = .ok (.iconst 1, 1) := dk_4 (dk_at dksX0_logField_0 15 rfl rfl)
theorem dX0_logField_16 : decode cX0_logField 16 = .ok (.ireturn, 1) := dk_172 (dk_at dksX0_logField_0 16 rfl rfl)
theorem dX0_logField_17 : decode cX0_logField 17 = .ok (.iconst 0, 1) := dk_3 (dk_at dksX0_logField_0 17 rfl rfl)
theorem dX0_logField_18 : decode cX0_logField 18 = .ok (.ireturn, 1) := dk_172 (dk_at dksX0_logField_0 18 rfl rfl)
abbrev cX0_makeVoid : ByteArray := method_32_code
def yX0_makeVoid : MethodName := ⟨RX0, "makeVoid", "(LLabelDriver;II[J)I"⟩
def dkwX0_makeVoid_0 : List UInt8 := [45, 3, 42, 27, 28, 182, 0, 109, 133, 80, 167, 0, 11, 58, 4, 4, 172, 58, 4, 5, 172, 3, 172]
abbrev dktX0_makeVoid_0 : List UInt8 := dkwX0_makeVoid_0 ++ []
theorem dksX0_makeVoid_0 : cX0_makeVoid.data.toList.drop 0 = dktX0_makeVoid_0 := by decide +kernel
theorem dX0_makeVoid_0 : decode cX0_makeVoid 0 = .ok (.aload_n 3, 1) := dk_45 (dk_at dksX0_makeVoid_0 0 rfl rfl)
theorem dX0_makeVoid_1 : decode cX0_makeVoid 1 = .ok (.iconst 0, 1) := dk_3 (dk_at dksX0_makeVoid_0 1 rfl rfl)
theorem dX0_makeVoid_2 : decode cX0_makeVoid 2 = .ok (.aload_n 0, 1) := dk_42 (dk_at dksX0_makeVoid_0 2 rfl rfl)
theorem dX0_makeVoid_3 : decode cX0_makeVoid 3 = .ok (.iload_n 1, 1) := dk_27 (dk_at dksX0_makeVoid_0 3 rfl rfl)
theorem dX0_makeVoid_4 : decode cX0_makeVoid 4 = .ok (.iload_n 2, 1) := dk_28 (dk_at dksX0_makeVoid_0 4 rfl rfl)
theorem dX0_makeVoid_5 : decode cX0_makeVoid 5 = .ok (.invokevirtual 109, 3) := dk_182 0 109 (dk_at dksX0_makeVoid_0 5 rfl rfl)
theorem dX0_makeVoid_8 : decode cX0_makeVoid 8 = .ok (.i2l, 1) := dk_133 (dk_at dksX0_makeVoid_0 8 rfl rfl)
theorem dX0_makeVoid_9 : decode cX0_makeVoid 9 = .ok (.lastore, 1) := dk_80 (dk_at dksX0_makeVoid_0 9 rfl rfl)
theorem dX0_makeVoid_10 : decode cX0_makeVoid 10 = .ok (.goto 11, 3) := dk_167 0 11 (dk_at dksX0_makeVoid_0 10 rfl rfl)
theorem dX0_makeVoid_13 : decode cX0_makeVoid 13 = .ok (.astore 4, 2) := dk_58 4 (dk_at dksX0_makeVoid_0 13 rfl rfl)
theorem dX0_makeVoid_15 : decode cX0_makeVoid 15 = .ok (.iconst 1, 1) := dk_4 (dk_at dksX0_makeVoid_0 15 rfl rfl)
theorem dX0_makeVoid_16 : decode cX0_makeVoid 16 = .ok (.ireturn, 1) := dk_172 (dk_at dksX0_makeVoid_0 16 rfl rfl)
theorem dX0_makeVoid_17 : decode cX0_makeVoid 17 = .ok (.astore 4, 2) := dk_58 4 (dk_at dksX0_makeVoid_0 17 rfl rfl)
theorem dX0_makeVoid_19 : decode cX0_makeVoid 19 = .ok (.iconst 2, 1) := dk_5 (dk_at dksX0_makeVoid_0 19 rfl rfl)
theorem dX0_makeVoid_20 : decode cX0_makeVoid 20 = .ok (.ireturn, 1) := dk_172 (dk_at dksX0_makeVoid_0 20 rfl rfl)
theorem dX0_makeVoid_21 : decode cX0_makeVoid 21 = .ok (.iconst 0, 1) := dk_3 (dk_at dksX0_makeVoid_0 21 rfl rfl)
theorem dX0_makeVoid_22 : decode cX0_makeVoid 22 = .ok (.ireturn, 1) := dk_172 (dk_at dksX0_makeVoid_0 22 rfl rfl)
abbrev cX0_requeue : ByteArray := method_33_code
def yX0_requeue : MethodName := ⟨RX0, "requeue", "(LLabelDriver;II[J)I"⟩
def dkwX0_requeue_0 : List UInt8 := [45, 3, 42, 27, 28, 182, 0, 112, 133, 80, 167, 0, 11, 58, 4, 4, 172, 58, 4, 5, 172, 3, 172]
abbrev dktX0_requeue_0 : List UInt8 := dkwX0_requeue_0 ++ []
theorem dksX0_requeue_0 : cX0_requeue.data.toList.drop 0 = dktX0_requeue_0 := by decide +kernel
theorem dX0_requeue_0 : decode cX0_requeue 0 = .ok (.aload_n 3, 1) := dk_45 (dk_at dksX0_requeue_0 0 rfl rfl)
theorem dX0_requeue_1 : decode cX0_requeue 1 = .ok (.iconst 0, 1) := dk_3 (dk_at dksX0_requeue_0 1 rfl rfl)
theorem dX0_requeue_2 : decode cX0_requeue 2 = .ok (.aload_n 0, 1) := dk_42 (dk_at dksX0_requeue_0 2 rfl rfl)
theorem dX0_requeue_3 : decode cX0_requeue 3 = .ok (.iload_n 1, 1) := dk_27 (dk_at dksX0_requeue_0 3 rfl rfl)
theorem dX0_requeue_4 : decode cX0_requeue 4 = .ok (.iload_n 2, 1) := dk_28 (dk_at dksX0_requeue_0 4 rfl rfl)
theorem dX0_requeue_5 : decode cX0_requeue 5 = .ok (.invokevirtual 112, 3) := dk_182 0 112 (dk_at dksX0_requeue_0 5 rfl rfl)
theorem dX0_requeue_8 : decode cX0_requeue 8 = .ok (.i2l, 1) := dk_133 (dk_at dksX0_requeue_0 8 rfl rfl)
theorem dX0_requeue_9 : decode cX0_requeue 9 = .ok (.lastore, 1) := dk_80 (dk_at dksX0_requeue_0 9 rfl rfl)
theorem dX0_requeue_10 : decode cX0_requeue 10 = .ok (.goto 11, 3) := dk_167 0 11 (dk_at dksX0_requeue_0 10 rfl rfl)
theorem dX0_requeue_13 : decode cX0_requeue 13 = .ok (.astore 4, 2) := dk_58 4 (dk_at dksX0_requeue_0 13 rfl rfl)
theorem dX0_requeue_15 : decode cX0_requeue 15 = .ok (.iconst 1, 1) := dk_4 (dk_at dksX0_requeue_0 15 rfl rfl)
theorem dX0_requeue_16 : decode cX0_requeue 16 = .ok (.ireturn, 1) := dk_172 (dk_at dksX0_requeue_0 16 rfl rfl)
theorem dX0_requeue_17 : decode cX0_requeue 17 = .ok (.astore 4, 2) := dk_58 4 (dk_at dksX0_requeue_0 17 rfl rfl)
theorem dX0_requeue_19 : decode cX0_requeue 19 = .ok (.iconst 2, 1) := dk_5 (dk_at dksX0_requeue_0 19 rfl rfl)
theorem dX0_requeue_20 : decode cX0_requeue 20 = .ok (.ireturn, 1) := dk_172 (dk_at dksX0_requeue_0 20 rfl rfl)
theorem dX0_requeue_21 : decode cX0_requeue 21 = .ok (.iconst 0, 1) := dk_3 (dk_at dksX0_requeue_0 21 rfl rfl)
theorem dX0_requeue_22 : decode cX0_requeue 22 = .ok (.ireturn, 1) := dk_172 (dk_at dksX0_requeue_0 22 rfl rfl)
abbrev cX0_unqueue : ByteArray := method_34_code
def yX0_unqueue : MethodName := ⟨RX0, "unqueue", "(LLabelDriver;II[J)I"⟩
def dkwX0_unqueue_0 : List UInt8 := [45, 3, 42, 27, 28, 182, 0, 115, 133, 80, 167, 0, 11, 58, 4, 4, 172, 58, 4, 5, 172, 3, 172]
abbrev dktX0_unqueue_0 : List UInt8 := dkwX0_unqueue_0 ++ []
theorem dksX0_unqueue_0 : cX0_unqueue.data.toList.drop 0 = dktX0_unqueue_0 := by decide +kernel
theorem dX0_unqueue_0 : decode cX0_unqueue 0 = .ok (.aload_n 3, 1) := dk_45 (dk_at dksX0_unqueue_0 0 rfl rfl)
theorem dX0_unqueue_1 : decode cX0_unqueue 1 = .ok (.iconst 0, 1) := dk_3 (dk_at dksX0_unqueue_0 1 rfl rfl)
theorem dX0_unqueue_2 : decode cX0_unqueue 2 = .ok (.aload_n 0, 1) := dk_42 (dk_at dksX0_unqueue_0 2 rfl rfl)
theorem dX0_unqueue_3 : decode cX0_unqueue 3 = .ok (.iload_n 1, 1) := dk_27 (dk_at dksX0_unqueue_0 3 rfl rfl)
theorem dX0_unqueue_4 : decode cX0_unqueue 4 = .ok (.iload_n 2, 1) := dk_28 (dk_at dksX0_unqueue_0 4 rfl rfl)
theorem dX0_unqueue_5 : decode cX0_unqueue 5 = .ok (.invokevirtual 115, 3) := dk_182 0 115 (dk_at dksX0_unqueue_0 5 rfl rfl)
theorem dX0_unqueue_8 : decode cX0_unqueue 8 = .ok (.i2l, 1) := dk_133 (dk_at dksX0_unqueue_0 8 rfl rfl)
theorem dX0_unqueue_9 : decode cX0_unqueue 9 = .ok (.lastore, 1) := dk_80 (dk_at dksX0_unqueue_0 9 rfl rfl)
theorem dX0_unqueue_10 : decode cX0_unqueue 10 = .ok (.goto 11, 3) := dk_167 0 11 (dk_at dksX0_unqueue_0 10 rfl rfl)
theorem dX0_unqueue_13 : decode cX0_unqueue 13 = .ok (.astore 4, 2) := dk_58 4 (dk_at dksX0_unqueue_0 13 rfl rfl)
theorem dX0_unqueue_15 : decode cX0_unqueue 15 = .ok (.iconst 1, 1) := dk_4 (dk_at dksX0_unqueue_0 15 rfl rfl)
theorem dX0_unqueue_16 : decode cX0_unqueue 16 = .ok (.ireturn, 1) := dk_172 (dk_at dksX0_unqueue_0 16 rfl rfl)
theorem dX0_unqueue_17 : decode cX0_unqueue 17 = .ok (.astore 4, 2) := dk_58 4 (dk_at dksX0_unqueue_0 17 rfl rfl)
theorem dX0_unqueue_19 : decode cX0_unqueue 19 = .ok (.iconst 2, 1) := dk_5 (dk_at dksX0_unqueue_0 19 rfl rfl)
theorem dX0_unqueue_20 : decode cX0_unqueue 20 = .ok (.ireturn, 1) := dk_172 (dk_at dksX0_unqueue_0 20 rfl rfl)
theorem dX0_unqueue_21 : decode cX0_unqueue 21 = .ok (.iconst 0, 1) := dk_3 (dk_at dksX0_unqueue_0 21 rfl rfl)
theorem dX0_unqueue_22 : decode cX0_unqueue 22 = .ok (.ireturn, 1) := dk_172 (dk_at dksX0_unqueue_0 22 rfl rfl)
abbrev cX0_abandon : ByteArray := method_35_code
def yX0_abandon : MethodName := ⟨RX0, "abandon", "(LLabelDriver;I[J)I"⟩
def dkwX0_abandon_0 : List UInt8 := [44, 3, 42, 27, 182, 0, 118, 133, 80, 167, 0, 6, 78, 4, 172, 3, 172]
abbrev dktX0_abandon_0 : List UInt8 := dkwX0_abandon_0 ++ []
theorem dksX0_abandon_0 : cX0_abandon.data.toList.drop 0 = dktX0_abandon_0 := by decide +kernel
theorem dX0_abandon_0 : decode cX0_abandon 0 = .ok (.aload_n 2, 1) := dk_44 (dk_at dksX0_abandon_0 0 rfl rfl)
theorem dX0_abandon_1 : decode cX0_abandon 1 = .ok (.iconst 0, 1) := dk_3 (dk_at dksX0_abandon_0 1 rfl rfl)
theorem dX0_abandon_2 : decode cX0_abandon 2 = .ok (.aload_n 0, 1) := dk_42 (dk_at dksX0_abandon_0 2 rfl rfl)
theorem dX0_abandon_3 : decode cX0_abandon 3 = .ok (.iload_n 1, 1) := dk_27 (dk_at dksX0_abandon_0 3 rfl rfl)
theorem dX0_abandon_4 : decode cX0_abandon 4 = .ok (.invokevirtual 118, 3) := dk_182 0 118 (dk_at dksX0_abandon_0 4 rfl rfl)
theorem dX0_abandon_7 : decode cX0_abandon 7 = .ok (.i2l, 1) := dk_133 (dk_at dksX0_abandon_0 7 rfl rfl)
theorem dX0_abandon_8 : decode cX0_abandon 8 = .ok (.lastore, 1) := dk_80 (dk_at dksX0_abandon_0 8 rfl rfl)
theorem dX0_abandon_9 : decode cX0_abandon 9 = .ok (.goto 6, 3) := dk_167 0 6 (dk_at dksX0_abandon_0 9 rfl rfl)
theorem dX0_abandon_12 : decode cX0_abandon 12 = .ok (.astore_n 3, 1) := dk_78 (dk_at dksX0_abandon_0 12 rfl rfl)
theorem dX0_abandon_13 : decode cX0_abandon 13 = .ok (.iconst 1, 1) := dk_4 (dk_at dksX0_abandon_0 13 rfl rfl)
theorem dX0_abandon_14 : decode cX0_abandon 14 = .ok (.ireturn, 1) := dk_172 (dk_at dksX0_abandon_0 14 rfl rfl)
theorem dX0_abandon_15 : decode cX0_abandon 15 = .ok (.iconst 0, 1) := dk_3 (dk_at dksX0_abandon_0 15 rfl rfl)
theorem dX0_abandon_16 : decode cX0_abandon 16 = .ok (.ireturn, 1) := dk_172 (dk_at dksX0_abandon_0 16 rfl rfl)
abbrev cX0_ribbonLasts : ByteArray := method_36_code
def yX0_ribbonLasts : MethodName := ⟨RX0, "ribbonLasts", "(LLabelDriver;[J)I"⟩
def dkwX0_ribbonLasts_0 : List UInt8 := [43, 3, 42, 182, 0, 121, 133, 80, 167, 0, 6, 77, 4, 172, 3, 172]
abbrev dktX0_ribbonLasts_0 : List UInt8 := dkwX0_ribbonLasts_0 ++ []
theorem dksX0_ribbonLasts_0 : cX0_ribbonLasts.data.toList.drop 0 = dktX0_ribbonLasts_0 := by decide +kernel
theorem dX0_ribbonLasts_0 : decode cX0_ribbonLasts 0 = .ok (.aload_n 1, 1) := dk_43 (dk_at dksX0_ribbonLasts_0 0 rfl rfl)
theorem dX0_ribbonLasts_1 : decode cX0_ribbonLasts 1 = .ok (.iconst 0, 1) := dk_3 (dk_at dksX0_ribbonLasts_0 1 rfl rfl)
theorem dX0_ribbonLasts_2 : decode cX0_ribbonLasts 2 = .ok (.aload_n 0, 1) := dk_42 (dk_at dksX0_ribbonLasts_0 2 rfl rfl)
theorem dX0_ribbonLasts_3 : decode cX0_ribbonLasts 3 = .ok (.invokevirtual 121, 3) := dk_182 0 121 (dk_at dksX0_ribbonLasts_0 3 rfl rfl)
theorem dX0_ribbonLasts_6 : decode cX0_ribbonLasts 6 = .ok (.i2l, 1) := dk_133 (dk_at dksX0_ribbonLasts_0 6 rfl rfl)
theorem dX0_ribbonLasts_7 : decode cX0_ribbonLasts 7 = .ok (.lastore, 1) := dk_80 (dk_at dksX0_ribbonLasts_0 7 rfl rfl)
theorem dX0_ribbonLasts_8 : decode cX0_ribbonLasts 8 = .ok (.goto 6, 3) := dk_167 0 6 (dk_at dksX0_ribbonLasts_0 8 rfl rfl)
theorem dX0_ribbonLasts_11 : decode cX0_ribbonLasts 11 = .ok (.astore_n 2, 1) := dk_77 (dk_at dksX0_ribbonLasts_0 11 rfl rfl)
theorem dX0_ribbonLasts_12 : decode cX0_ribbonLasts 12 = .ok (.iconst 1, 1) := dk_4 (dk_at dksX0_ribbonLasts_0 12 rfl rfl)
theorem dX0_ribbonLasts_13 : decode cX0_ribbonLasts 13 = .ok (.ireturn, 1) := dk_172 (dk_at dksX0_ribbonLasts_0 13 rfl rfl)
theorem dX0_ribbonLasts_14 : decode cX0_ribbonLasts 14 = .ok (.iconst 0, 1) := dk_3 (dk_at dksX0_ribbonLasts_0 14 rfl rfl)
theorem dX0_ribbonLasts_15 : decode cX0_ribbonLasts 15 = .ok (.ireturn, 1) := dk_172 (dk_at dksX0_ribbonLasts_0 15 rfl rfl)
abbrev cX0_webLasts : ByteArray := method_37_code
def yX0_webLasts : MethodName := ⟨RX0, "webLasts", "(LLabelDriver;[J)I"⟩
def dkwX0_webLasts_0 : List UInt8 := [43, 3, 42, 182, 0, 124, 133, 80, 167, 0, 6, 77, 4, 172, 3, 172]
abbrev dktX0_webLasts_0 : List UInt8 := dkwX0_webLasts_0 ++ []
theorem dksX0_webLasts_0 : cX0_webLasts.data.toList.drop 0 = dktX0_webLasts_0 := by decide +kernel
theorem dX0_webLasts_0 : decode cX0_webLasts 0 = .ok (.aload_n 1, 1) := dk_43 (dk_at dksX0_webLasts_0 0 rfl rfl)
theorem dX0_webLasts_1 : decode cX0_webLasts 1 = .ok (.iconst 0, 1) := dk_3 (dk_at dksX0_webLasts_0 1 rfl rfl)
theorem dX0_webLasts_2 : decode cX0_webLasts 2 = .ok (.aload_n 0, 1) := dk_42 (dk_at dksX0_webLasts_0 2 rfl rfl)
theorem dX0_webLasts_3 : decode cX0_webLasts 3 = .ok (.invokevirtual 124, 3) := dk_182 0 124 (dk_at dksX0_webLasts_0 3 rfl rfl)
theorem dX0_webLasts_6 : decode cX0_webLasts 6 = .ok (.i2l, 1) := dk_133 (dk_at dksX0_webLasts_0 6 rfl rfl)
theorem dX0_webLasts_7 : decode cX0_webLasts 7 = .ok (.lastore, 1) := dk_80 (dk_at dksX0_webLasts_0 7 rfl rfl)
theorem dX0_webLasts_8 : decode cX0_webLasts 8 = .ok (.goto 6, 3) := dk_167 0 6 (dk_at dksX0_webLasts_0 8 rfl rfl)
theorem dX0_webLasts_11 : decode cX0_webLasts 11 = .ok (.astore_n 2, 1) := dk_77 (dk_at dksX0_webLasts_0 11 rfl rfl)
theorem dX0_webLasts_12 : decode cX0_webLasts 12 = .ok (.iconst 1, 1) := dk_4 (dk_at dksX0_webLasts_0 12 rfl rfl)
theorem dX0_webLasts_13 : decode cX0_webLasts 13 = .ok (.ireturn, 1) := dk_172 (dk_at dksX0_webLasts_0 13 rfl rfl)
theorem dX0_webLasts_14 : decode cX0_webLasts 14 = .ok (.iconst 0, 1) := dk_3 (dk_at dksX0_webLasts_0 14 rfl rfl)
theorem dX0_webLasts_15 : decode cX0_webLasts 15 = .ok (.ireturn, 1) := dk_172 (dk_at dksX0_webLasts_0 15 rfl rfl)
abbrev cX0_total : ByteArray := method_38_code
def yX0_total : MethodName := ⟨RX0, "total", "(LLabelDriver;I[J)I"⟩
def dkwX0_total_0 : List UInt8 := [44, 3, 42, 27, 182, 0, 127, 133, 80, 167, 0, 6, 78, 4, 172, 3, 172]
abbrev dktX0_total_0 : List UInt8 := dkwX0_total_0 ++ []
theorem dksX0_total_0 : cX0_total.data.toList.drop 0 = dktX0_total_0 := by decide +kernel
theorem dX0_total_0 : decode cX0_total 0 = .ok (.aload_n 2, 1) := dk_44 (dk_at dksX0_total_0 0 rfl rfl)
theorem dX0_total_1 : decode cX0_total 1 = .ok (.iconst 0, 1) := dk_3 (dk_at dksX0_total_0 1 rfl rfl)
theorem dX0_total_2 : decode cX0_total 2 = .ok (.aload_n 0, 1) := dk_42 (dk_at dksX0_total_0 2 rfl rfl)
theorem dX0_total_3 : decode cX0_total 3 = .ok (.iload_n 1, 1) := dk_27 (dk_at dksX0_total_0 3 rfl rfl)
theorem dX0_total_4 : decode cX0_total 4 = .ok (.invokevirtual 127, 3) := dk_182 0 127 (dk_at dksX0_total_0 4 rfl rfl)
theorem dX0_total_7 : decode cX0_total 7 = .ok (.i2l, 1) := dk_133 (dk_at dksX0_total_0 7 rfl rfl)
theorem dX0_total_8 : decode cX0_total 8 = .ok (.lastore, 1) := dk_80 (dk_at dksX0_total_0 8 rfl rfl)
theorem dX0_total_9 : decode cX0_total 9 = .ok (.goto 6, 3) := dk_167 0 6 (dk_at dksX0_total_0 9 rfl rfl)
theorem dX0_total_12 : decode cX0_total 12 = .ok (.astore_n 3, 1) := dk_78 (dk_at dksX0_total_0 12 rfl rfl)
theorem dX0_total_13 : decode cX0_total 13 = .ok (.iconst 1, 1) := dk_4 (dk_at dksX0_total_0 13 rfl rfl)
theorem dX0_total_14 : decode cX0_total 14 = .ok (.ireturn, 1) := dk_172 (dk_at dksX0_total_0 14 rfl rfl)
theorem dX0_total_15 : decode cX0_total 15 = .ok (.iconst 0, 1) := dk_3 (dk_at dksX0_total_0 15 rfl rfl)
theorem dX0_total_16 : decode cX0_total 16 = .ok (.ireturn, 1) := dk_172 (dk_at dksX0_total_0 16 rfl rfl)
abbrev cX0_formatSerial : ByteArray := method_39_code
def yX0_formatSerial : MethodName := ⟨RX0, "formatSerial", "(LLabelDriver;II[J)I"⟩
def dkwX0_formatSerial_0 : List UInt8 := [45, 3, 42, 27, 28, 182, 0, 130, 133, 80, 167, 0, 7, 58, 4, 4, 172, 3, 172]
abbrev dktX0_formatSerial_0 : List UInt8 := dkwX0_formatSerial_0 ++ []
theorem dksX0_formatSerial_0 : cX0_formatSerial.data.toList.drop 0 = dktX0_formatSerial_0 := by decide +kernel
theorem dX0_formatSerial_0 : decode cX0_formatSerial 0 = .ok (.aload_n 3, 1) := dk_45 (dk_at dksX0_formatSerial_0 0 rfl rfl)
theorem dX0_formatSerial_1 : decode cX0_formatSerial 1 = .ok (.iconst 0, 1) := dk_3 (dk_at dksX0_formatSerial_0 1 rfl rfl)
theorem dX0_formatSerial_2 : decode cX0_formatSerial 2 = .ok (.aload_n 0, 1) := dk_42 (dk_at dksX0_formatSerial_0 2 rfl rfl)
theorem dX0_formatSerial_3 : decode cX0_formatSerial 3 = .ok (.iload_n 1, 1) := dk_27 (dk_at dksX0_formatSerial_0 3 rfl rfl)
theorem dX0_formatSerial_4 : decode cX0_formatSerial 4 = .ok (.iload_n 2, 1) := dk_28 (dk_at dksX0_formatSerial_0 4 rfl rfl)
theorem dX0_formatSerial_5 : decode cX0_formatSerial 5 = .ok (.invokevirtual 130, 3) := dk_182 0 130 (dk_at dksX0_formatSerial_0 5 rfl rfl)
theorem dX0_formatSerial_8 : decode cX0_formatSerial 8 = .ok (.i2l, 1) := dk_133 (dk_at dksX0_formatSerial_0 8 rfl rfl)
theorem dX0_formatSerial_9 : decode cX0_formatSerial 9 = .ok (.lastore, 1) := dk_80 (dk_at dksX0_formatSerial_0 9 rfl rfl)
theorem dX0_formatSerial_10 : decode cX0_formatSerial 10 = .ok (.goto 7, 3) := dk_167 0 7 (dk_at dksX0_formatSerial_0 10 rfl rfl)
theorem dX0_formatSerial_13 : decode cX0_formatSerial 13 = .ok (.astore 4, 2) := dk_58 4 (dk_at dksX0_formatSerial_0 13 rfl rfl)
theorem dX0_formatSerial_15 : decode cX0_formatSerial 15 = .ok (.iconst 1, 1) := dk_4 (dk_at dksX0_formatSerial_0 15 rfl rfl)
theorem dX0_formatSerial_16 : decode cX0_formatSerial 16 = .ok (.ireturn, 1) := dk_172 (dk_at dksX0_formatSerial_0 16 rfl rfl)
theorem dX0_formatSerial_17 : decode cX0_formatSerial 17 = .ok (.iconst 0, 1) := dk_3 (dk_at dksX0_formatSerial_0 17 rfl rfl)
theorem dX0_formatSerial_18 : decode cX0_formatSerial 18 = .ok (.ireturn, 1) := dk_172 (dk_at dksX0_formatSerial_0 18 rfl rfl)
abbrev cX0_formatBatch : ByteArray := method_40_code
def yX0_formatBatch : MethodName := ⟨RX0, "formatBatch", "(LLabelDriver;I[J)I"⟩
def dkwX0_formatBatch_0 : List UInt8 := [44, 3, 42, 27, 182, 0, 133, 133, 80, 167, 0, 6, 78, 4, 172, 3, 172]
abbrev dktX0_formatBatch_0 : List UInt8 := dkwX0_formatBatch_0 ++ []
theorem dksX0_formatBatch_0 : cX0_formatBatch.data.toList.drop 0 = dktX0_formatBatch_0 := by decide +kernel
theorem dX0_formatBatch_0 : decode cX0_formatBatch 0 = .ok (.aload_n 2, 1) := dk_44 (dk_at dksX0_formatBatch_0 0 rfl rfl)
theorem dX0_formatBatch_1 : decode cX0_formatBatch 1 = .ok (.iconst 0, 1) := dk_3 (dk_at dksX0_formatBatch_0 1 rfl rfl)
theorem dX0_formatBatch_2 : decode cX0_formatBatch 2 = .ok (.aload_n 0, 1) := dk_42 (dk_at dksX0_formatBatch_0 2 rfl rfl)
theorem dX0_formatBatch_3 : decode cX0_formatBatch 3 = .ok (.iload_n 1, 1) := dk_27 (dk_at dksX0_formatBatch_0 3 rfl rfl)
theorem dX0_formatBatch_4 : decode cX0_formatBatch 4 = .ok (.invokevirtual 133, 3) := dk_182 0 133 (dk_at dksX0_formatBatch_0 4 rfl rfl)
theorem dX0_formatBatch_7 : decode cX0_formatBatch 7 = .ok (.i2l, 1) := dk_133 (dk_at dksX0_formatBatch_0 7 rfl rfl)
theorem dX0_formatBatch_8 : decode cX0_formatBatch 8 = .ok (.lastore, 1) := dk_80 (dk_at dksX0_formatBatch_0 8 rfl rfl)
theorem dX0_formatBatch_9 : decode cX0_formatBatch 9 = .ok (.goto 6, 3) := dk_167 0 6 (dk_at dksX0_formatBatch_0 9 rfl rfl)
theorem dX0_formatBatch_12 : decode cX0_formatBatch 12 = .ok (.astore_n 3, 1) := dk_78 (dk_at dksX0_formatBatch_0 12 rfl rfl)
theorem dX0_formatBatch_13 : decode cX0_formatBatch 13 = .ok (.iconst 1, 1) := dk_4 (dk_at dksX0_formatBatch_0 13 rfl rfl)
theorem dX0_formatBatch_14 : decode cX0_formatBatch 14 = .ok (.ireturn, 1) := dk_172 (dk_at dksX0_formatBatch_0 14 rfl rfl)
theorem dX0_formatBatch_15 : decode cX0_formatBatch 15 = .ok (.iconst 0, 1) := dk_3 (dk_at dksX0_formatBatch_0 15 rfl rfl)
theorem dX0_formatBatch_16 : decode cX0_formatBatch 16 = .ok (.ireturn, 1) := dk_172 (dk_at dksX0_formatBatch_0 16 rfl rfl)
theorem q83 : (Jvm.Cond.initialized "LabelDriverLaw") ∈ lw_all := lw_g (lw_at lw_m1 0 rfl) rfl
theorem q127 : (Jvm.Cond.classLink "LabelDriverLaw" (8 : Nat) "LabelDriver") ∈ lw_all := lw_g (lw_at lw_m1 44 rfl) rfl
theorem q129 : (Jvm.Cond.methodLink "LabelDriverLaw" (136 : Nat) ({ cls := "LabelDriver", name := "<init>", desc := "()V" } : Jvm.MethodName)) ∈ lw_all := lw_g (lw_at lw_m1 46 rfl) rfl
theorem q666 : (Jvm.Cond.methodLink "LabelDriverLaw" (140 : Nat) ({ cls := "LabelDriver", name := "append", desc := "(IIIII)I" } : Jvm.MethodName)) ∈ lw_all := lw_g (lw_at lw_m3 103 rfl) rfl
theorem q670 : (Jvm.Cond.methodLink "LabelDriverLaw" (144 : Nat) ({ cls := "LabelDriver", name := "truncate", desc := "(I)Z" } : Jvm.MethodName)) ∈ lw_all := lw_g (lw_at lw_m3 107 rfl) rfl
theorem q677 : (Jvm.Cond.methodLink "LabelDriverLaw" (158 : Nat) ({ cls := "LabelDriver", name := "errorOffset", desc := "()I" } : Jvm.MethodName)) ∈ lw_all := lw_g (lw_at lw_m3 114 rfl) rfl
theorem q681 : (Jvm.Cond.methodLink "LabelDriverLaw" (162 : Nat) ({ cls := "LabelDriver", name := "errorKind", desc := "()I" } : Jvm.MethodName)) ∈ lw_all := lw_g (lw_at lw_m3 118 rfl) rfl
theorem q685 : (Jvm.Cond.methodLink "LabelDriverLaw" (178 : Nat) ({ cls := "LabelDriver", name := "ribbonLeft", desc := "()I" } : Jvm.MethodName)) ∈ lw_all := lw_g (lw_at lw_m3 122 rfl) rfl
theorem q689 : (Jvm.Cond.methodLink "LabelDriverLaw" (206 : Nat) ({ cls := "LabelDriver", name := "isReady", desc := "()Z" } : Jvm.MethodName)) ∈ lw_all := lw_g (lw_at lw_m3 126 rfl) rfl
theorem q693 : (Jvm.Cond.methodLink "LabelDriverLaw" (226 : Nat) ({ cls := "LabelDriver", name := "lastShift", desc := "()I" } : Jvm.MethodName)) ∈ lw_all := lw_g (lw_at lw_m3 130 rfl) rfl
theorem q697 : (Jvm.Cond.methodLink "LabelDriverLaw" (251 : Nat) ({ cls := "LabelDriver", name := "mostAttempts", desc := "()I" } : Jvm.MethodName)) ∈ lw_all := lw_g (lw_at lw_m3 134 rfl) rfl
theorem q720 : (Jvm.Cond.methodLink "LabelDriverLaw" (255 : Nat) ({ cls := "LabelDriver", name := "reprints", desc := "()I" } : Jvm.MethodName)) ∈ lw_all := lw_g (lw_at lw_m3 157 rfl) rfl
theorem q731 : (Jvm.Cond.methodLink "LabelDriverLaw" (259 : Nat) ({ cls := "LabelDriver", name := "reprint", desc := "(I)I" } : Jvm.MethodName)) ∈ lw_all := lw_g (lw_at lw_m3 168 rfl) rfl
theorem q873 : (Jvm.Cond.methodLink "LabelDriverLaw" (263 : Nat) ({ cls := "LabelDriver", name := "nextSerial", desc := "()I" } : Jvm.MethodName)) ∈ lw_all := lw_g (lw_at lw_m4 70 rfl) rfl
theorem q912 : (Jvm.Cond.methodLink "LabelDriverLaw" (274 : Nat) ({ cls := "LabelDriver", name := "doubles", desc := "()I" } : Jvm.MethodName)) ∈ lw_all := lw_g (lw_at lw_m4 109 rfl) rfl
theorem q926 : (Jvm.Cond.methodLink "LabelDriverLaw" (284 : Nat) ({ cls := "LabelDriver", name := "logCount", desc := "()I" } : Jvm.MethodName)) ∈ lw_all := lw_g (lw_at lw_m4 123 rfl) rfl
theorem q930 : (Jvm.Cond.methodLink "LabelDriverLaw" (291 : Nat) ({ cls := "LabelDriver", name := "printingAt", desc := "(I)I" } : Jvm.MethodName)) ∈ lw_all := lw_g (lw_at lw_m4 127 rfl) rfl
theorem q934 : (Jvm.Cond.methodLink "LabelDriverLaw" (295 : Nat) ({ cls := "LabelDriver", name := "longestRow", desc := "()I" } : Jvm.MethodName)) ∈ lw_all := lw_g (lw_at lw_m4 131 rfl) rfl
theorem q939 : (Jvm.Cond.methodLink "LabelDriverLaw" (299 : Nat) ({ cls := "LabelDriver", name := "trouble", desc := "()I" } : Jvm.MethodName)) ∈ lw_all := lw_g (lw_at lw_m4 136 rfl) rfl
theorem q943 : (Jvm.Cond.methodLink "LabelDriverLaw" (303 : Nat) ({ cls := "LabelDriver", name := "causeOfTrouble", desc := "()I" } : Jvm.MethodName)) ∈ lw_all := lw_g (lw_at lw_m4 140 rfl) rfl
theorem q947 : (Jvm.Cond.methodLink "LabelDriverLaw" (319 : Nat) ({ cls := "LabelDriver", name := "undo", desc := "()I" } : Jvm.MethodName)) ∈ lw_all := lw_g (lw_at lw_m4 144 rfl) rfl
theorem q963 : (Jvm.Cond.methodLink "LabelDriverLaw" (323 : Nat) ({ cls := "LabelDriver", name := "undoDepth", desc := "()I" } : Jvm.MethodName)) ∈ lw_all := lw_g (lw_at lw_m4 160 rfl) rfl
theorem q967 : (Jvm.Cond.methodLink "LabelDriverLaw" (333 : Nat) ({ cls := "LabelDriver", name := "toPrint", desc := "()I" } : Jvm.MethodName)) ∈ lw_all := lw_g (lw_at lw_m4 164 rfl) rfl
theorem q997 : (Jvm.Cond.methodLink "LabelDriverLaw" (337 : Nat) ({ cls := "LabelDriver", name := "yieldPercent", desc := "()I" } : Jvm.MethodName)) ∈ lw_all := lw_g (lw_at lw_m4 194 rfl) rfl
theorem q1001 : (Jvm.Cond.methodLink "LabelDriverLaw" (350 : Nat) ({ cls := "LabelDriver", name := "formattedByte", desc := "(I)I" } : Jvm.MethodName)) ∈ lw_all := lw_g (lw_at lw_m4 198 rfl) rfl
theorem q1019 : (Jvm.Cond.methodLink "LabelDriverLaw" (149 : Nat) ({ cls := "LabelDriverLaw", name := "load", desc := "(LLabelDriver;[J)I" } : Jvm.MethodName)) ∈ lw_all := lw_g (lw_at lw_m4 216 rfl) rfl
theorem q1020 : (Jvm.Cond.static ({ cls := "LabelDriverLaw", name := "load", desc := "(LLabelDriver;[J)I" } : Jvm.MethodName)) ∈ lw_all := lw_g (lw_at lw_m4 217 rfl) rfl
theorem q1021 : (Jvm.Cond.codeWith ({ cls := "LabelDriverLaw", name := "load", desc := "(LLabelDriver;[J)I" } : Jvm.MethodName) method_3_code (3 : Nat) (Option.some Jvm.ClassFile.FieldType.int) [((0 : Nat), (8 : Nat), (11 : Nat), (13 : Nat))]) ∈ lw_all := lw_g (lw_at lw_m4 218 rfl) rfl
theorem q1022 : (Jvm.Cond.classLink "LabelDriverLaw" (13 : Nat) "java/lang/IllegalArgumentException") ∈ lw_all := lw_g (lw_at lw_m4 219 rfl) rfl
theorem q1023 : (Jvm.Cond.methodLink "LabelDriverLaw" (7 : Nat) ({ cls := "LabelDriver", name := "load", desc := "()I" } : Jvm.MethodName)) ∈ lw_all := lw_g (lw_at lw_m4 220 rfl) rfl
theorem q1332 : (Jvm.Cond.methodLink "LabelDriverLaw" (166 : Nat) ({ cls := "LabelDriverLaw", name := "mountRoll", desc := "(LLabelDriver;IIIII[J)I" } : Jvm.MethodName)) ∈ lw_all := lw_g (lw_at lw_m6 49 rfl) rfl
theorem q1333 : (Jvm.Cond.static ({ cls := "LabelDriverLaw", name := "mountRoll", desc := "(LLabelDriver;IIIII[J)I" } : Jvm.MethodName)) ∈ lw_all := lw_g (lw_at lw_m6 50 rfl) rfl
theorem q1334 : (Jvm.Cond.codeWith ({ cls := "LabelDriverLaw", name := "mountRoll", desc := "(LLabelDriver;IIIII[J)I" } : Jvm.MethodName) method_4_code (8 : Nat) (Option.some Jvm.ClassFile.FieldType.int) [((0 : Nat), (16 : Nat), (19 : Nat), (13 : Nat))]) ∈ lw_all := lw_g (lw_at lw_m6 51 rfl) rfl
theorem q1335 : (Jvm.Cond.methodLink "LabelDriverLaw" (15 : Nat) ({ cls := "LabelDriver", name := "mountRoll", desc := "(IIIII)I" } : Jvm.MethodName)) ∈ lw_all := lw_g (lw_at lw_m6 52 rfl) rfl
theorem q1437 : (Jvm.Cond.methodLink "LabelDriverLaw" (170 : Nat) ({ cls := "LabelDriverLaw", name := "stretch", desc := "(LLabelDriver;II[J)I" } : Jvm.MethodName)) ∈ lw_all := lw_g (lw_at lw_m6 154 rfl) rfl
theorem q1438 : (Jvm.Cond.static ({ cls := "LabelDriverLaw", name := "stretch", desc := "(LLabelDriver;II[J)I" } : Jvm.MethodName)) ∈ lw_all := lw_g (lw_at lw_m6 155 rfl) rfl
theorem q1439 : (Jvm.Cond.codeWith ({ cls := "LabelDriverLaw", name := "stretch", desc := "(LLabelDriver;II[J)I" } : Jvm.MethodName) method_5_code (5 : Nat) (Option.some Jvm.ClassFile.FieldType.int) [((0 : Nat), (10 : Nat), (13 : Nat), (23 : Nat)), ((0 : Nat), (10 : Nat), (17 : Nat), (25 : Nat)), ((0 : Nat), (10 : Nat), (21 : Nat), (13 : Nat))]) ∈ lw_all := lw_g (lw_at lw_m6 156 rfl) rfl
theorem q1440 : (Jvm.Cond.classLink "LabelDriverLaw" (23 : Nat) "java/lang/IllegalStateException") ∈ lw_all := lw_g (lw_at lw_m6 157 rfl) rfl
theorem q1441 : (Jvm.Cond.classLink "LabelDriverLaw" (25 : Nat) "java/lang/IndexOutOfBoundsException") ∈ lw_all := lw_g (lw_at lw_m6 158 rfl) rfl
theorem q1460 : (Jvm.Cond.methodLink "LabelDriverLaw" (19 : Nat) ({ cls := "LabelDriver", name := "stretch", desc := "(II)I" } : Jvm.MethodName)) ∈ lw_all := lw_g (lw_at lw_m6 177 rfl) rfl
theorem q1481 : (Jvm.Cond.methodLink "LabelDriverLaw" (174 : Nat) ({ cls := "LabelDriverLaw", name := "mountRibbon", desc := "(LLabelDriver;I[J)I" } : Jvm.MethodName)) ∈ lw_all := lw_g (lw_at lw_m6 198 rfl) rfl
theorem q1482 : (Jvm.Cond.static ({ cls := "LabelDriverLaw", name := "mountRibbon", desc := "(LLabelDriver;I[J)I" } : Jvm.MethodName)) ∈ lw_all := lw_g (lw_at lw_m6 199 rfl) rfl
theorem q1483 : (Jvm.Cond.codeWith ({ cls := "LabelDriverLaw", name := "mountRibbon", desc := "(LLabelDriver;I[J)I" } : Jvm.MethodName) method_6_code (4 : Nat) (Option.some Jvm.ClassFile.FieldType.int) [((0 : Nat), (9 : Nat), (12 : Nat), (13 : Nat))]) ∈ lw_all := lw_g (lw_at lw_m6 200 rfl) rfl
theorem q1484 : (Jvm.Cond.methodLink "LabelDriverLaw" (27 : Nat) ({ cls := "LabelDriver", name := "mountRibbon", desc := "(I)I" } : Jvm.MethodName)) ∈ lw_all := lw_g (lw_at lw_m6 201 rfl) rfl
theorem q1489 : (Jvm.Cond.methodLink "LabelDriverLaw" (182 : Nat) ({ cls := "LabelDriverLaw", name := "position", desc := "(LLabelDriver;[J)I" } : Jvm.MethodName)) ∈ lw_all := lw_g (lw_at lw_m6 206 rfl) rfl
theorem q1490 : (Jvm.Cond.static ({ cls := "LabelDriverLaw", name := "position", desc := "(LLabelDriver;[J)I" } : Jvm.MethodName)) ∈ lw_all := lw_g (lw_at lw_m6 207 rfl) rfl
theorem q1491 : (Jvm.Cond.codeWith ({ cls := "LabelDriverLaw", name := "position", desc := "(LLabelDriver;[J)I" } : Jvm.MethodName) method_7_code (3 : Nat) (Option.some Jvm.ClassFile.FieldType.int) [((0 : Nat), (8 : Nat), (11 : Nat), (23 : Nat))]) ∈ lw_all := lw_g (lw_at lw_m6 208 rfl) rfl
theorem q1492 : (Jvm.Cond.methodLink "LabelDriverLaw" (31 : Nat) ({ cls := "LabelDriver", name := "position", desc := "()I" } : Jvm.MethodName)) ∈ lw_all := lw_g (lw_at lw_m6 209 rfl) rfl
theorem q1496 : (Jvm.Cond.methodLink "LabelDriverLaw" (185 : Nat) ({ cls := "LabelDriverLaw", name := "webEnd", desc := "(LLabelDriver;[J)I" } : Jvm.MethodName)) ∈ lw_all := lw_g (lw_at lw_m6 213 rfl) rfl
theorem q1497 : (Jvm.Cond.static ({ cls := "LabelDriverLaw", name := "webEnd", desc := "(LLabelDriver;[J)I" } : Jvm.MethodName)) ∈ lw_all := lw_g (lw_at lw_m6 214 rfl) rfl
theorem q1498 : (Jvm.Cond.codeWith ({ cls := "LabelDriverLaw", name := "webEnd", desc := "(LLabelDriver;[J)I" } : Jvm.MethodName) method_8_code (3 : Nat) (Option.some Jvm.ClassFile.FieldType.int) [((0 : Nat), (8 : Nat), (11 : Nat), (23 : Nat))]) ∈ lw_all := lw_g (lw_at lw_m6 215 rfl) rfl
theorem q1499 : (Jvm.Cond.methodLink "LabelDriverLaw" (34 : Nat) ({ cls := "LabelDriver", name := "webEnd", desc := "()I" } : Jvm.MethodName)) ∈ lw_all := lw_g (lw_at lw_m6 216 rfl) rfl
theorem q1503 : (Jvm.Cond.methodLink "LabelDriverLaw" (188 : Nat) ({ cls := "LabelDriverLaw", name := "labelBegin", desc := "(LLabelDriver;I[J)I" } : Jvm.MethodName)) ∈ lw_all := lw_g (lw_at lw_m6 220 rfl) rfl
theorem q1504 : (Jvm.Cond.static ({ cls := "LabelDriverLaw", name := "labelBegin", desc := "(LLabelDriver;I[J)I" } : Jvm.MethodName)) ∈ lw_all := lw_g (lw_at lw_m6 221 rfl) rfl
theorem q1505 : (Jvm.Cond.codeWith ({ cls := "LabelDriverLaw", name := "labelBegin", desc := "(LLabelDriver;I[J)I" } : Jvm.MethodName) method_9_code (4 : Nat) (Option.some Jvm.ClassFile.FieldType.int) [((0 : Nat), (9 : Nat), (12 : Nat), (23 : Nat)), ((0 : Nat), (9 : Nat), (15 : Nat), (25 : Nat))]) ∈ lw_all := lw_g (lw_at lw_m6 222 rfl) rfl
theorem q1506 : (Jvm.Cond.methodLink "LabelDriverLaw" (37 : Nat) ({ cls := "LabelDriver", name := "labelBegin", desc := "(I)I" } : Jvm.MethodName)) ∈ lw_all := lw_g (lw_at lw_m6 223 rfl) rfl
theorem q1510 : (Jvm.Cond.methodLink "LabelDriverLaw" (191 : Nat) ({ cls := "LabelDriverLaw", name := "lightAt", desc := "(LLabelDriver;I[J)I" } : Jvm.MethodName)) ∈ lw_all := lw_g (lw_at lw_m6 227 rfl) rfl
theorem q1511 : (Jvm.Cond.static ({ cls := "LabelDriverLaw", name := "lightAt", desc := "(LLabelDriver;I[J)I" } : Jvm.MethodName)) ∈ lw_all := lw_g (lw_at lw_m6 228 rfl) rfl
theorem q1512 : (Jvm.Cond.codeWith ({ cls := "LabelDriverLaw", name := "lightAt", desc := "(LLabelDriver;I[J)I" } : Jvm.MethodName) method_10_code (4 : Nat) (Option.some Jvm.ClassFile.FieldType.int) [((0 : Nat), (9 : Nat), (12 : Nat), (23 : Nat))]) ∈ lw_all := lw_g (lw_at lw_m6 229 rfl) rfl
theorem q1513 : (Jvm.Cond.methodLink "LabelDriverLaw" (40 : Nat) ({ cls := "LabelDriver", name := "lightAt", desc := "(I)I" } : Jvm.MethodName)) ∈ lw_all := lw_g (lw_at lw_m6 230 rfl) rfl
theorem q1518 : (Jvm.Cond.methodLink "LabelDriverLaw" (194 : Nat) ({ cls := "LabelDriverLaw", name := "labelUnderHead", desc := "(LLabelDriver;[J)I" } : Jvm.MethodName)) ∈ lw_all := lw_g (lw_at lw_m6 235 rfl) rfl
theorem q1519 : (Jvm.Cond.static ({ cls := "LabelDriverLaw", name := "labelUnderHead", desc := "(LLabelDriver;[J)I" } : Jvm.MethodName)) ∈ lw_all := lw_g (lw_at lw_m6 236 rfl) rfl
theorem q1520 : (Jvm.Cond.codeWith ({ cls := "LabelDriverLaw", name := "labelUnderHead", desc := "(LLabelDriver;[J)I" } : Jvm.MethodName) method_11_code (3 : Nat) (Option.some Jvm.ClassFile.FieldType.int) [((0 : Nat), (8 : Nat), (11 : Nat), (23 : Nat))]) ∈ lw_all := lw_g (lw_at lw_m6 237 rfl) rfl
theorem q1521 : (Jvm.Cond.methodLink "LabelDriverLaw" (43 : Nat) ({ cls := "LabelDriver", name := "labelUnderHead", desc := "()I" } : Jvm.MethodName)) ∈ lw_all := lw_g (lw_at lw_m6 238 rfl) rfl
theorem q1526 : (Jvm.Cond.methodLink "LabelDriverLaw" (197 : Nat) ({ cls := "LabelDriverLaw", name := "feed", desc := "(LLabelDriver;I[J)I" } : Jvm.MethodName)) ∈ lw_all := lw_g (lw_at lw_m7 3 rfl) rfl
theorem q1527 : (Jvm.Cond.static ({ cls := "LabelDriverLaw", name := "feed", desc := "(LLabelDriver;I[J)I" } : Jvm.MethodName)) ∈ lw_all := lw_g (lw_at lw_m7 4 rfl) rfl
theorem q1528 : (Jvm.Cond.codeWith ({ cls := "LabelDriverLaw", name := "feed", desc := "(LLabelDriver;I[J)I" } : Jvm.MethodName) method_12_code (4 : Nat) (Option.some Jvm.ClassFile.FieldType.int) [((0 : Nat), (9 : Nat), (12 : Nat), (23 : Nat)), ((0 : Nat), (9 : Nat), (15 : Nat), (13 : Nat))]) ∈ lw_all := lw_g (lw_at lw_m7 5 rfl) rfl
theorem q1529 : (Jvm.Cond.methodLink "LabelDriverLaw" (46 : Nat) ({ cls := "LabelDriver", name := "feed", desc := "(I)I" } : Jvm.MethodName)) ∈ lw_all := lw_g (lw_at lw_m7 6 rfl) rfl
theorem q1548 : (Jvm.Cond.methodLink "LabelDriverLaw" (200 : Nat) ({ cls := "LabelDriverLaw", name := "feedToForm", desc := "(LLabelDriver;[J)I" } : Jvm.MethodName)) ∈ lw_all := lw_g (lw_at lw_m7 25 rfl) rfl
theorem q1549 : (Jvm.Cond.static ({ cls := "LabelDriverLaw", name := "feedToForm", desc := "(LLabelDriver;[J)I" } : Jvm.MethodName)) ∈ lw_all := lw_g (lw_at lw_m7 26 rfl) rfl
theorem q1550 : (Jvm.Cond.codeWith ({ cls := "LabelDriverLaw", name := "feedToForm", desc := "(LLabelDriver;[J)I" } : Jvm.MethodName) method_13_code (3 : Nat) (Option.some Jvm.ClassFile.FieldType.int) [((0 : Nat), (8 : Nat), (11 : Nat), (23 : Nat))]) ∈ lw_all := lw_g (lw_at lw_m7 27 rfl) rfl
theorem q1551 : (Jvm.Cond.methodLink "LabelDriverLaw" (49 : Nat) ({ cls := "LabelDriver", name := "feedToForm", desc := "()I" } : Jvm.MethodName)) ∈ lw_all := lw_g (lw_at lw_m7 28 rfl) rfl
theorem q1559 : (Jvm.Cond.methodLink "LabelDriverLaw" (203 : Nat) ({ cls := "LabelDriverLaw", name := "learn", desc := "(LLabelDriver;[J)I" } : Jvm.MethodName)) ∈ lw_all := lw_g (lw_at lw_m7 36 rfl) rfl
theorem q1560 : (Jvm.Cond.static ({ cls := "LabelDriverLaw", name := "learn", desc := "(LLabelDriver;[J)I" } : Jvm.MethodName)) ∈ lw_all := lw_g (lw_at lw_m7 37 rfl) rfl
theorem q1561 : (Jvm.Cond.codeWith ({ cls := "LabelDriverLaw", name := "learn", desc := "(LLabelDriver;[J)I" } : Jvm.MethodName) method_14_code (3 : Nat) (Option.some Jvm.ClassFile.FieldType.int) [((0 : Nat), (8 : Nat), (11 : Nat), (23 : Nat))]) ∈ lw_all := lw_g (lw_at lw_m7 38 rfl) rfl
theorem q1562 : (Jvm.Cond.methodLink "LabelDriverLaw" (52 : Nat) ({ cls := "LabelDriver", name := "learn", desc := "()I" } : Jvm.MethodName)) ∈ lw_all := lw_g (lw_at lw_m7 39 rfl) rfl
theorem q1671 : (Jvm.Cond.methodLink "LabelDriverLaw" (211 : Nat) ({ cls := "LabelDriverLaw", name := "learned", desc := "(LLabelDriver;I[J)I" } : Jvm.MethodName)) ∈ lw_all := lw_g (lw_at lw_m7 148 rfl) rfl
theorem q1672 : (Jvm.Cond.static ({ cls := "LabelDriverLaw", name := "learned", desc := "(LLabelDriver;I[J)I" } : Jvm.MethodName)) ∈ lw_all := lw_g (lw_at lw_m7 149 rfl) rfl
theorem q1673 : (Jvm.Cond.codeWith ({ cls := "LabelDriverLaw", name := "learned", desc := "(LLabelDriver;I[J)I" } : Jvm.MethodName) method_15_code (4 : Nat) (Option.some Jvm.ClassFile.FieldType.int) [((0 : Nat), (9 : Nat), (12 : Nat), (23 : Nat)), ((0 : Nat), (9 : Nat), (15 : Nat), (58 : Nat))]) ∈ lw_all := lw_g (lw_at lw_m7 150 rfl) rfl
theorem q1674 : (Jvm.Cond.classLink "LabelDriverLaw" (58 : Nat) "java/util/NoSuchElementException") ∈ lw_all := lw_g (lw_at lw_m7 151 rfl) rfl
theorem q1675 : (Jvm.Cond.methodLink "LabelDriverLaw" (55 : Nat) ({ cls := "LabelDriver", name := "learned", desc := "(I)I" } : Jvm.MethodName)) ∈ lw_all := lw_g (lw_at lw_m7 152 rfl) rfl
theorem q1684 : (Jvm.Cond.methodLink "LabelDriverLaw" (214 : Nat) ({ cls := "LabelDriverLaw", name := "gapsSeen", desc := "(LLabelDriver;[J)I" } : Jvm.MethodName)) ∈ lw_all := lw_g (lw_at lw_m7 161 rfl) rfl
theorem q1685 : (Jvm.Cond.static ({ cls := "LabelDriverLaw", name := "gapsSeen", desc := "(LLabelDriver;[J)I" } : Jvm.MethodName)) ∈ lw_all := lw_g (lw_at lw_m7 162 rfl) rfl
theorem q1686 : (Jvm.Cond.codeWith ({ cls := "LabelDriverLaw", name := "gapsSeen", desc := "(LLabelDriver;[J)I" } : Jvm.MethodName) method_16_code (3 : Nat) (Option.some Jvm.ClassFile.FieldType.int) [((0 : Nat), (8 : Nat), (11 : Nat), (23 : Nat))]) ∈ lw_all := lw_g (lw_at lw_m7 163 rfl) rfl
theorem q1687 : (Jvm.Cond.methodLink "LabelDriverLaw" (60 : Nat) ({ cls := "LabelDriver", name := "gapsSeen", desc := "()I" } : Jvm.MethodName)) ∈ lw_all := lw_g (lw_at lw_m7 164 rfl) rfl
theorem q1693 : (Jvm.Cond.methodLink "LabelDriverLaw" (217 : Nat) ({ cls := "LabelDriverLaw", name := "seenTo", desc := "(LLabelDriver;[J)I" } : Jvm.MethodName)) ∈ lw_all := lw_g (lw_at lw_m7 170 rfl) rfl
theorem q1694 : (Jvm.Cond.static ({ cls := "LabelDriverLaw", name := "seenTo", desc := "(LLabelDriver;[J)I" } : Jvm.MethodName)) ∈ lw_all := lw_g (lw_at lw_m7 171 rfl) rfl
theorem q1695 : (Jvm.Cond.codeWith ({ cls := "LabelDriverLaw", name := "seenTo", desc := "(LLabelDriver;[J)I" } : Jvm.MethodName) method_17_code (3 : Nat) (Option.some Jvm.ClassFile.FieldType.int) [((0 : Nat), (8 : Nat), (11 : Nat), (23 : Nat))]) ∈ lw_all := lw_g (lw_at lw_m7 172 rfl) rfl
theorem q1696 : (Jvm.Cond.methodLink "LabelDriverLaw" (63 : Nat) ({ cls := "LabelDriver", name := "seenTo", desc := "()I" } : Jvm.MethodName)) ∈ lw_all := lw_g (lw_at lw_m7 173 rfl) rfl
theorem q1700 : (Jvm.Cond.methodLink "LabelDriverLaw" (220 : Nat) ({ cls := "LabelDriverLaw", name := "backfeed", desc := "(LLabelDriver;[J)I" } : Jvm.MethodName)) ∈ lw_all := lw_g (lw_at lw_m7 177 rfl) rfl
theorem q1701 : (Jvm.Cond.static ({ cls := "LabelDriverLaw", name := "backfeed", desc := "(LLabelDriver;[J)I" } : Jvm.MethodName)) ∈ lw_all := lw_g (lw_at lw_m7 178 rfl) rfl
theorem q1702 : (Jvm.Cond.codeWith ({ cls := "LabelDriverLaw", name := "backfeed", desc := "(LLabelDriver;[J)I" } : Jvm.MethodName) method_18_code (3 : Nat) (Option.some Jvm.ClassFile.FieldType.int) [((0 : Nat), (8 : Nat), (11 : Nat), (23 : Nat))]) ∈ lw_all := lw_g (lw_at lw_m7 179 rfl) rfl
theorem q1703 : (Jvm.Cond.methodLink "LabelDriverLaw" (66 : Nat) ({ cls := "LabelDriver", name := "backfeed", desc := "()I" } : Jvm.MethodName)) ∈ lw_all := lw_g (lw_at lw_m7 180 rfl) rfl
theorem q1707 : (Jvm.Cond.methodLink "LabelDriverLaw" (223 : Nat) ({ cls := "LabelDriverLaw", name := "nextGap", desc := "(LLabelDriver;I[J)I" } : Jvm.MethodName)) ∈ lw_all := lw_g (lw_at lw_m7 184 rfl) rfl
theorem q1708 : (Jvm.Cond.static ({ cls := "LabelDriverLaw", name := "nextGap", desc := "(LLabelDriver;I[J)I" } : Jvm.MethodName)) ∈ lw_all := lw_g (lw_at lw_m7 185 rfl) rfl
theorem q1709 : (Jvm.Cond.codeWith ({ cls := "LabelDriverLaw", name := "nextGap", desc := "(LLabelDriver;I[J)I" } : Jvm.MethodName) method_19_code (4 : Nat) (Option.some Jvm.ClassFile.FieldType.int) [((0 : Nat), (9 : Nat), (12 : Nat), (23 : Nat))]) ∈ lw_all := lw_g (lw_at lw_m7 186 rfl) rfl
theorem q1710 : (Jvm.Cond.methodLink "LabelDriverLaw" (69 : Nat) ({ cls := "LabelDriver", name := "nextGap", desc := "(I)I" } : Jvm.MethodName)) ∈ lw_all := lw_g (lw_at lw_m7 187 rfl) rfl
theorem q1716 : (Jvm.Cond.methodLink "LabelDriverLaw" (230 : Nat) ({ cls := "LabelDriverLaw", name := "tearPlace", desc := "(LLabelDriver;[J)I" } : Jvm.MethodName)) ∈ lw_all := lw_g (lw_at lw_m7 193 rfl) rfl
theorem q1717 : (Jvm.Cond.static ({ cls := "LabelDriverLaw", name := "tearPlace", desc := "(LLabelDriver;[J)I" } : Jvm.MethodName)) ∈ lw_all := lw_g (lw_at lw_m7 194 rfl) rfl
theorem q1718 : (Jvm.Cond.codeWith ({ cls := "LabelDriverLaw", name := "tearPlace", desc := "(LLabelDriver;[J)I" } : Jvm.MethodName) method_20_code (3 : Nat) (Option.some Jvm.ClassFile.FieldType.int) [((0 : Nat), (8 : Nat), (11 : Nat), (23 : Nat))]) ∈ lw_all := lw_g (lw_at lw_m7 195 rfl) rfl
theorem q1719 : (Jvm.Cond.methodLink "LabelDriverLaw" (72 : Nat) ({ cls := "LabelDriver", name := "tearPlace", desc := "()I" } : Jvm.MethodName)) ∈ lw_all := lw_g (lw_at lw_m7 196 rfl) rfl
theorem q1727 : (Jvm.Cond.methodLink "LabelDriverLaw" (233 : Nat) ({ cls := "LabelDriverLaw", name := "batchField", desc := "(LLabelDriver;II[J)I" } : Jvm.MethodName)) ∈ lw_all := lw_g (lw_at lw_m7 204 rfl) rfl
theorem q1728 : (Jvm.Cond.static ({ cls := "LabelDriverLaw", name := "batchField", desc := "(LLabelDriver;II[J)I" } : Jvm.MethodName)) ∈ lw_all := lw_g (lw_at lw_m7 205 rfl) rfl
theorem q1729 : (Jvm.Cond.codeWith ({ cls := "LabelDriverLaw", name := "batchField", desc := "(LLabelDriver;II[J)I" } : Jvm.MethodName) method_21_code (5 : Nat) (Option.some Jvm.ClassFile.FieldType.int) [((0 : Nat), (10 : Nat), (13 : Nat), (25 : Nat)), ((0 : Nat), (10 : Nat), (17 : Nat), (58 : Nat))]) ∈ lw_all := lw_g (lw_at lw_m7 206 rfl) rfl
theorem q1730 : (Jvm.Cond.methodLink "LabelDriverLaw" (75 : Nat) ({ cls := "LabelDriver", name := "batchField", desc := "(II)I" } : Jvm.MethodName)) ∈ lw_all := lw_g (lw_at lw_m7 207 rfl) rfl
theorem q1734 : (Jvm.Cond.methodLink "LabelDriverLaw" (236 : Nat) ({ cls := "LabelDriverLaw", name := "number", desc := "(LLabelDriver;II[J)I" } : Jvm.MethodName)) ∈ lw_all := lw_g (lw_at lw_m7 211 rfl) rfl
theorem q1735 : (Jvm.Cond.static ({ cls := "LabelDriverLaw", name := "number", desc := "(LLabelDriver;II[J)I" } : Jvm.MethodName)) ∈ lw_all := lw_g (lw_at lw_m7 212 rfl) rfl
theorem q1736 : (Jvm.Cond.codeWith ({ cls := "LabelDriverLaw", name := "number", desc := "(LLabelDriver;II[J)I" } : Jvm.MethodName) method_22_code (5 : Nat) (Option.some Jvm.ClassFile.FieldType.int) [((0 : Nat), (10 : Nat), (13 : Nat), (25 : Nat))]) ∈ lw_all := lw_g (lw_at lw_m7 213 rfl) rfl
theorem q1737 : (Jvm.Cond.methodLink "LabelDriverLaw" (78 : Nat) ({ cls := "LabelDriver", name := "number", desc := "(II)I" } : Jvm.MethodName)) ∈ lw_all := lw_g (lw_at lw_m7 214 rfl) rfl
theorem q1745 : (Jvm.Cond.methodLink "LabelDriverLaw" (239 : Nat) ({ cls := "LabelDriverLaw", name := "checkDigit", desc := "(LLabelDriver;II[J)I" } : Jvm.MethodName)) ∈ lw_all := lw_g (lw_at lw_m7 222 rfl) rfl
theorem q1746 : (Jvm.Cond.static ({ cls := "LabelDriverLaw", name := "checkDigit", desc := "(LLabelDriver;II[J)I" } : Jvm.MethodName)) ∈ lw_all := lw_g (lw_at lw_m7 223 rfl) rfl
theorem q1747 : (Jvm.Cond.codeWith ({ cls := "LabelDriverLaw", name := "checkDigit", desc := "(LLabelDriver;II[J)I" } : Jvm.MethodName) method_23_code (5 : Nat) (Option.some Jvm.ClassFile.FieldType.int) [((0 : Nat), (10 : Nat), (13 : Nat), (25 : Nat))]) ∈ lw_all := lw_g (lw_at lw_m7 224 rfl) rfl
theorem q1748 : (Jvm.Cond.methodLink "LabelDriverLaw" (81 : Nat) ({ cls := "LabelDriver", name := "checkDigit", desc := "(II)I" } : Jvm.MethodName)) ∈ lw_all := lw_g (lw_at lw_m7 225 rfl) rfl
theorem q1757 : (Jvm.Cond.methodLink "LabelDriverLaw" (242 : Nat) ({ cls := "LabelDriverLaw", name := "stateOf", desc := "(LLabelDriver;II[J)I" } : Jvm.MethodName)) ∈ lw_all := lw_g (lw_at lw_m7 234 rfl) rfl
theorem q1758 : (Jvm.Cond.static ({ cls := "LabelDriverLaw", name := "stateOf", desc := "(LLabelDriver;II[J)I" } : Jvm.MethodName)) ∈ lw_all := lw_g (lw_at lw_m7 235 rfl) rfl
theorem q1759 : (Jvm.Cond.codeWith ({ cls := "LabelDriverLaw", name := "stateOf", desc := "(LLabelDriver;II[J)I" } : Jvm.MethodName) method_24_code (5 : Nat) (Option.some Jvm.ClassFile.FieldType.int) [((0 : Nat), (10 : Nat), (13 : Nat), (25 : Nat))]) ∈ lw_all := lw_g (lw_at lw_m7 236 rfl) rfl
theorem q1760 : (Jvm.Cond.methodLink "LabelDriverLaw" (84 : Nat) ({ cls := "LabelDriver", name := "stateOf", desc := "(II)I" } : Jvm.MethodName)) ∈ lw_all := lw_g (lw_at lw_m7 237 rfl) rfl
theorem q1764 : (Jvm.Cond.methodLink "LabelDriverLaw" (245 : Nat) ({ cls := "LabelDriverLaw", name := "attempts", desc := "(LLabelDriver;II[J)I" } : Jvm.MethodName)) ∈ lw_all := lw_g (lw_at lw_m8 1 rfl) rfl
theorem q1765 : (Jvm.Cond.static ({ cls := "LabelDriverLaw", name := "attempts", desc := "(LLabelDriver;II[J)I" } : Jvm.MethodName)) ∈ lw_all := lw_g (lw_at lw_m8 2 rfl) rfl
theorem q1766 : (Jvm.Cond.codeWith ({ cls := "LabelDriverLaw", name := "attempts", desc := "(LLabelDriver;II[J)I" } : Jvm.MethodName) method_25_code (5 : Nat) (Option.some Jvm.ClassFile.FieldType.int) [((0 : Nat), (10 : Nat), (13 : Nat), (25 : Nat))]) ∈ lw_all := lw_g (lw_at lw_m8 3 rfl) rfl
theorem q1767 : (Jvm.Cond.methodLink "LabelDriverLaw" (87 : Nat) ({ cls := "LabelDriver", name := "attempts", desc := "(II)I" } : Jvm.MethodName)) ∈ lw_all := lw_g (lw_at lw_m8 4 rfl) rfl
theorem q1771 : (Jvm.Cond.methodLink "LabelDriverLaw" (248 : Nat) ({ cls := "LabelDriverLaw", name := "countOf", desc := "(LLabelDriver;II[J)I" } : Jvm.MethodName)) ∈ lw_all := lw_g (lw_at lw_m8 8 rfl) rfl
theorem q1772 : (Jvm.Cond.static ({ cls := "LabelDriverLaw", name := "countOf", desc := "(LLabelDriver;II[J)I" } : Jvm.MethodName)) ∈ lw_all := lw_g (lw_at lw_m8 9 rfl) rfl
theorem q1773 : (Jvm.Cond.codeWith ({ cls := "LabelDriverLaw", name := "countOf", desc := "(LLabelDriver;II[J)I" } : Jvm.MethodName) method_26_code (5 : Nat) (Option.some Jvm.ClassFile.FieldType.int) [((0 : Nat), (10 : Nat), (13 : Nat), (25 : Nat)), ((0 : Nat), (10 : Nat), (17 : Nat), (13 : Nat))]) ∈ lw_all := lw_g (lw_at lw_m8 10 rfl) rfl
theorem q1774 : (Jvm.Cond.methodLink "LabelDriverLaw" (90 : Nat) ({ cls := "LabelDriver", name := "countOf", desc := "(II)I" } : Jvm.MethodName)) ∈ lw_all := lw_g (lw_at lw_m8 11 rfl) rfl
theorem q1778 : (Jvm.Cond.methodLink "LabelDriverLaw" (267 : Nat) ({ cls := "LabelDriverLaw", name := "printedAs", desc := "(LLabelDriver;I[J)I" } : Jvm.MethodName)) ∈ lw_all := lw_g (lw_at lw_m8 15 rfl) rfl
theorem q1779 : (Jvm.Cond.static ({ cls := "LabelDriverLaw", name := "printedAs", desc := "(LLabelDriver;I[J)I" } : Jvm.MethodName)) ∈ lw_all := lw_g (lw_at lw_m8 16 rfl) rfl
theorem q1780 : (Jvm.Cond.codeWith ({ cls := "LabelDriverLaw", name := "printedAs", desc := "(LLabelDriver;I[J)I" } : Jvm.MethodName) method_27_code (4 : Nat) (Option.some Jvm.ClassFile.FieldType.int) [((0 : Nat), (9 : Nat), (12 : Nat), (13 : Nat))]) ∈ lw_all := lw_g (lw_at lw_m8 17 rfl) rfl
theorem q1781 : (Jvm.Cond.methodLink "LabelDriverLaw" (93 : Nat) ({ cls := "LabelDriver", name := "printedAs", desc := "(I)I" } : Jvm.MethodName)) ∈ lw_all := lw_g (lw_at lw_m8 18 rfl) rfl
theorem q1791 : (Jvm.Cond.methodLink "LabelDriverLaw" (270 : Nat) ({ cls := "LabelDriverLaw", name := "verify", desc := "(LLabelDriver;III[J)I" } : Jvm.MethodName)) ∈ lw_all := lw_g (lw_at lw_m8 28 rfl) rfl
theorem q1792 : (Jvm.Cond.static ({ cls := "LabelDriverLaw", name := "verify", desc := "(LLabelDriver;III[J)I" } : Jvm.MethodName)) ∈ lw_all := lw_g (lw_at lw_m8 29 rfl) rfl
theorem q1793 : (Jvm.Cond.codeWith ({ cls := "LabelDriverLaw", name := "verify", desc := "(LLabelDriver;III[J)I" } : Jvm.MethodName) method_28_code (6 : Nat) (Option.some Jvm.ClassFile.FieldType.int) [((0 : Nat), (12 : Nat), (15 : Nat), (25 : Nat))]) ∈ lw_all := lw_g (lw_at lw_m8 30 rfl) rfl
theorem q1794 : (Jvm.Cond.methodLink "LabelDriverLaw" (96 : Nat) ({ cls := "LabelDriver", name := "verify", desc := "(III)I" } : Jvm.MethodName)) ∈ lw_all := lw_g (lw_at lw_m8 31 rfl) rfl
theorem q1798 : (Jvm.Cond.methodLink "LabelDriverLaw" (278 : Nat) ({ cls := "LabelDriverLaw", name := "run", desc := "(LLabelDriver;I[J)I" } : Jvm.MethodName)) ∈ lw_all := lw_g (lw_at lw_m8 35 rfl) rfl
theorem q1799 : (Jvm.Cond.static ({ cls := "LabelDriverLaw", name := "run", desc := "(LLabelDriver;I[J)I" } : Jvm.MethodName)) ∈ lw_all := lw_g (lw_at lw_m8 36 rfl) rfl
theorem q1800 : (Jvm.Cond.codeWith ({ cls := "LabelDriverLaw", name := "run", desc := "(LLabelDriver;I[J)I" } : Jvm.MethodName) method_29_code (4 : Nat) (Option.some Jvm.ClassFile.FieldType.int) [((0 : Nat), (9 : Nat), (12 : Nat), (13 : Nat)), ((0 : Nat), (9 : Nat), (15 : Nat), (23 : Nat))]) ∈ lw_all := lw_g (lw_at lw_m8 37 rfl) rfl
theorem q1801 : (Jvm.Cond.methodLink "LabelDriverLaw" (100 : Nat) ({ cls := "LabelDriver", name := "run", desc := "(I)I" } : Jvm.MethodName)) ∈ lw_all := lw_g (lw_at lw_m8 38 rfl) rfl
theorem q1871 : (Jvm.Cond.methodLink "LabelDriverLaw" (281 : Nat) ({ cls := "LabelDriverLaw", name := "wouldRun", desc := "(LLabelDriver;II[J)I" } : Jvm.MethodName)) ∈ lw_all := lw_g (lw_at lw_m8 108 rfl) rfl
theorem q1872 : (Jvm.Cond.static ({ cls := "LabelDriverLaw", name := "wouldRun", desc := "(LLabelDriver;II[J)I" } : Jvm.MethodName)) ∈ lw_all := lw_g (lw_at lw_m8 109 rfl) rfl
theorem q1873 : (Jvm.Cond.codeWith ({ cls := "LabelDriverLaw", name := "wouldRun", desc := "(LLabelDriver;II[J)I" } : Jvm.MethodName) method_30_code (5 : Nat) (Option.some Jvm.ClassFile.FieldType.int) [((0 : Nat), (10 : Nat), (13 : Nat), (13 : Nat)), ((0 : Nat), (10 : Nat), (17 : Nat), (23 : Nat)), ((0 : Nat), (10 : Nat), (21 : Nat), (58 : Nat))]) ∈ lw_all := lw_g (lw_at lw_m8 110 rfl) rfl
theorem q1874 : (Jvm.Cond.methodLink "LabelDriverLaw" (103 : Nat) ({ cls := "LabelDriver", name := "wouldRun", desc := "(II)I" } : Jvm.MethodName)) ∈ lw_all := lw_g (lw_at lw_m8 111 rfl) rfl
theorem q1878 : (Jvm.Cond.methodLink "LabelDriverLaw" (288 : Nat) ({ cls := "LabelDriverLaw", name := "logField", desc := "(LLabelDriver;II[J)I" } : Jvm.MethodName)) ∈ lw_all := lw_g (lw_at lw_m8 115 rfl) rfl
theorem q1879 : (Jvm.Cond.static ({ cls := "LabelDriverLaw", name := "logField", desc := "(LLabelDriver;II[J)I" } : Jvm.MethodName)) ∈ lw_all := lw_g (lw_at lw_m8 116 rfl) rfl
theorem q1880 : (Jvm.Cond.codeWith ({ cls := "LabelDriverLaw", name := "logField", desc := "(LLabelDriver;II[J)I" } : Jvm.MethodName) method_31_code (5 : Nat) (Option.some Jvm.ClassFile.FieldType.int) [((0 : Nat), (10 : Nat), (13 : Nat), (58 : Nat))]) ∈ lw_all := lw_g (lw_at lw_m8 117 rfl) rfl
theorem q1881 : (Jvm.Cond.methodLink "LabelDriverLaw" (106 : Nat) ({ cls := "LabelDriver", name := "logField", desc := "(II)I" } : Jvm.MethodName)) ∈ lw_all := lw_g (lw_at lw_m8 118 rfl) rfl
theorem q1885 : (Jvm.Cond.methodLink "LabelDriverLaw" (307 : Nat) ({ cls := "LabelDriverLaw", name := "makeVoid", desc := "(LLabelDriver;II[J)I" } : Jvm.MethodName)) ∈ lw_all := lw_g (lw_at lw_m8 122 rfl) rfl
theorem q1886 : (Jvm.Cond.static ({ cls := "LabelDriverLaw", name := "makeVoid", desc := "(LLabelDriver;II[J)I" } : Jvm.MethodName)) ∈ lw_all := lw_g (lw_at lw_m8 123 rfl) rfl
theorem q1887 : (Jvm.Cond.codeWith ({ cls := "LabelDriverLaw", name := "makeVoid", desc := "(LLabelDriver;II[J)I" } : Jvm.MethodName) method_32_code (5 : Nat) (Option.some Jvm.ClassFile.FieldType.int) [((0 : Nat), (10 : Nat), (13 : Nat), (25 : Nat)), ((0 : Nat), (10 : Nat), (17 : Nat), (23 : Nat))]) ∈ lw_all := lw_g (lw_at lw_m8 124 rfl) rfl
theorem q1888 : (Jvm.Cond.methodLink "LabelDriverLaw" (109 : Nat) ({ cls := "LabelDriver", name := "makeVoid", desc := "(II)I" } : Jvm.MethodName)) ∈ lw_all := lw_g (lw_at lw_m8 125 rfl) rfl
theorem q1892 : (Jvm.Cond.methodLink "LabelDriverLaw" (310 : Nat) ({ cls := "LabelDriverLaw", name := "requeue", desc := "(LLabelDriver;II[J)I" } : Jvm.MethodName)) ∈ lw_all := lw_g (lw_at lw_m8 129 rfl) rfl
theorem q1893 : (Jvm.Cond.static ({ cls := "LabelDriverLaw", name := "requeue", desc := "(LLabelDriver;II[J)I" } : Jvm.MethodName)) ∈ lw_all := lw_g (lw_at lw_m8 130 rfl) rfl
theorem q1894 : (Jvm.Cond.codeWith ({ cls := "LabelDriverLaw", name := "requeue", desc := "(LLabelDriver;II[J)I" } : Jvm.MethodName) method_33_code (5 : Nat) (Option.some Jvm.ClassFile.FieldType.int) [((0 : Nat), (10 : Nat), (13 : Nat), (25 : Nat)), ((0 : Nat), (10 : Nat), (17 : Nat), (23 : Nat))]) ∈ lw_all := lw_g (lw_at lw_m8 131 rfl) rfl
theorem q1895 : (Jvm.Cond.methodLink "LabelDriverLaw" (112 : Nat) ({ cls := "LabelDriver", name := "requeue", desc := "(II)I" } : Jvm.MethodName)) ∈ lw_all := lw_g (lw_at lw_m8 132 rfl) rfl
theorem q1908 : (Jvm.Cond.methodLink "LabelDriverLaw" (313 : Nat) ({ cls := "LabelDriverLaw", name := "unqueue", desc := "(LLabelDriver;II[J)I" } : Jvm.MethodName)) ∈ lw_all := lw_g (lw_at lw_m8 145 rfl) rfl
theorem q1909 : (Jvm.Cond.static ({ cls := "LabelDriverLaw", name := "unqueue", desc := "(LLabelDriver;II[J)I" } : Jvm.MethodName)) ∈ lw_all := lw_g (lw_at lw_m8 146 rfl) rfl
theorem q1910 : (Jvm.Cond.codeWith ({ cls := "LabelDriverLaw", name := "unqueue", desc := "(LLabelDriver;II[J)I" } : Jvm.MethodName) method_34_code (5 : Nat) (Option.some Jvm.ClassFile.FieldType.int) [((0 : Nat), (10 : Nat), (13 : Nat), (25 : Nat)), ((0 : Nat), (10 : Nat), (17 : Nat), (23 : Nat))]) ∈ lw_all := lw_g (lw_at lw_m8 147 rfl) rfl
theorem q1911 : (Jvm.Cond.methodLink "LabelDriverLaw" (115 : Nat) ({ cls := "LabelDriver", name := "unqueue", desc := "(II)I" } : Jvm.MethodName)) ∈ lw_all := lw_g (lw_at lw_m8 148 rfl) rfl
theorem q1920 : (Jvm.Cond.methodLink "LabelDriverLaw" (316 : Nat) ({ cls := "LabelDriverLaw", name := "abandon", desc := "(LLabelDriver;I[J)I" } : Jvm.MethodName)) ∈ lw_all := lw_g (lw_at lw_m8 157 rfl) rfl
theorem q1921 : (Jvm.Cond.static ({ cls := "LabelDriverLaw", name := "abandon", desc := "(LLabelDriver;I[J)I" } : Jvm.MethodName)) ∈ lw_all := lw_g (lw_at lw_m8 158 rfl) rfl
theorem q1922 : (Jvm.Cond.codeWith ({ cls := "LabelDriverLaw", name := "abandon", desc := "(LLabelDriver;I[J)I" } : Jvm.MethodName) method_35_code (4 : Nat) (Option.some Jvm.ClassFile.FieldType.int) [((0 : Nat), (9 : Nat), (12 : Nat), (25 : Nat))]) ∈ lw_all := lw_g (lw_at lw_m8 159 rfl) rfl
theorem q1923 : (Jvm.Cond.methodLink "LabelDriverLaw" (118 : Nat) ({ cls := "LabelDriver", name := "abandon", desc := "(I)I" } : Jvm.MethodName)) ∈ lw_all := lw_g (lw_at lw_m8 160 rfl) rfl
theorem q1927 : (Jvm.Cond.methodLink "LabelDriverLaw" (327 : Nat) ({ cls := "LabelDriverLaw", name := "ribbonLasts", desc := "(LLabelDriver;[J)I" } : Jvm.MethodName)) ∈ lw_all := lw_g (lw_at lw_m8 164 rfl) rfl
theorem q1928 : (Jvm.Cond.static ({ cls := "LabelDriverLaw", name := "ribbonLasts", desc := "(LLabelDriver;[J)I" } : Jvm.MethodName)) ∈ lw_all := lw_g (lw_at lw_m8 165 rfl) rfl
theorem q1929 : (Jvm.Cond.codeWith ({ cls := "LabelDriverLaw", name := "ribbonLasts", desc := "(LLabelDriver;[J)I" } : Jvm.MethodName) method_36_code (3 : Nat) (Option.some Jvm.ClassFile.FieldType.int) [((0 : Nat), (8 : Nat), (11 : Nat), (23 : Nat))]) ∈ lw_all := lw_g (lw_at lw_m8 166 rfl) rfl
theorem q1930 : (Jvm.Cond.methodLink "LabelDriverLaw" (121 : Nat) ({ cls := "LabelDriver", name := "ribbonLasts", desc := "()I" } : Jvm.MethodName)) ∈ lw_all := lw_g (lw_at lw_m8 167 rfl) rfl
theorem q1934 : (Jvm.Cond.methodLink "LabelDriverLaw" (330 : Nat) ({ cls := "LabelDriverLaw", name := "webLasts", desc := "(LLabelDriver;[J)I" } : Jvm.MethodName)) ∈ lw_all := lw_g (lw_at lw_m8 171 rfl) rfl
theorem q1935 : (Jvm.Cond.static ({ cls := "LabelDriverLaw", name := "webLasts", desc := "(LLabelDriver;[J)I" } : Jvm.MethodName)) ∈ lw_all := lw_g (lw_at lw_m8 172 rfl) rfl
theorem q1936 : (Jvm.Cond.codeWith ({ cls := "LabelDriverLaw", name := "webLasts", desc := "(LLabelDriver;[J)I" } : Jvm.MethodName) method_37_code (3 : Nat) (Option.some Jvm.ClassFile.FieldType.int) [((0 : Nat), (8 : Nat), (11 : Nat), (23 : Nat))]) ∈ lw_all := lw_g (lw_at lw_m8 173 rfl) rfl
theorem q1937 : (Jvm.Cond.methodLink "LabelDriverLaw" (124 : Nat) ({ cls := "LabelDriver", name := "webLasts", desc := "()I" } : Jvm.MethodName)) ∈ lw_all := lw_g (lw_at lw_m8 174 rfl) rfl
theorem q1944 : (Jvm.Cond.methodLink "LabelDriverLaw" (341 : Nat) ({ cls := "LabelDriverLaw", name := "total", desc := "(LLabelDriver;I[J)I" } : Jvm.MethodName)) ∈ lw_all := lw_g (lw_at lw_m8 181 rfl) rfl
theorem q1945 : (Jvm.Cond.static ({ cls := "LabelDriverLaw", name := "total", desc := "(LLabelDriver;I[J)I" } : Jvm.MethodName)) ∈ lw_all := lw_g (lw_at lw_m8 182 rfl) rfl
theorem q1946 : (Jvm.Cond.codeWith ({ cls := "LabelDriverLaw", name := "total", desc := "(LLabelDriver;I[J)I" } : Jvm.MethodName) method_38_code (4 : Nat) (Option.some Jvm.ClassFile.FieldType.int) [((0 : Nat), (9 : Nat), (12 : Nat), (58 : Nat))]) ∈ lw_all := lw_g (lw_at lw_m8 183 rfl) rfl
theorem q1947 : (Jvm.Cond.methodLink "LabelDriverLaw" (127 : Nat) ({ cls := "LabelDriver", name := "total", desc := "(I)I" } : Jvm.MethodName)) ∈ lw_all := lw_g (lw_at lw_m8 184 rfl) rfl
theorem q1951 : (Jvm.Cond.methodLink "LabelDriverLaw" (344 : Nat) ({ cls := "LabelDriverLaw", name := "formatSerial", desc := "(LLabelDriver;II[J)I" } : Jvm.MethodName)) ∈ lw_all := lw_g (lw_at lw_m8 188 rfl) rfl
theorem q1952 : (Jvm.Cond.static ({ cls := "LabelDriverLaw", name := "formatSerial", desc := "(LLabelDriver;II[J)I" } : Jvm.MethodName)) ∈ lw_all := lw_g (lw_at lw_m8 189 rfl) rfl
theorem q1953 : (Jvm.Cond.codeWith ({ cls := "LabelDriverLaw", name := "formatSerial", desc := "(LLabelDriver;II[J)I" } : Jvm.MethodName) method_39_code (5 : Nat) (Option.some Jvm.ClassFile.FieldType.int) [((0 : Nat), (10 : Nat), (13 : Nat), (25 : Nat))]) ∈ lw_all := lw_g (lw_at lw_m8 190 rfl) rfl
theorem q1954 : (Jvm.Cond.methodLink "LabelDriverLaw" (130 : Nat) ({ cls := "LabelDriver", name := "formatSerial", desc := "(II)I" } : Jvm.MethodName)) ∈ lw_all := lw_g (lw_at lw_m8 191 rfl) rfl
theorem q2013 : (Jvm.Cond.methodLink "LabelDriverLaw" (347 : Nat) ({ cls := "LabelDriverLaw", name := "formatBatch", desc := "(LLabelDriver;I[J)I" } : Jvm.MethodName)) ∈ lw_all := lw_g (lw_at lw_m9 10 rfl) rfl
theorem q2014 : (Jvm.Cond.static ({ cls := "LabelDriverLaw", name := "formatBatch", desc := "(LLabelDriver;I[J)I" } : Jvm.MethodName)) ∈ lw_all := lw_g (lw_at lw_m9 11 rfl) rfl
theorem q2015 : (Jvm.Cond.codeWith ({ cls := "LabelDriverLaw", name := "formatBatch", desc := "(LLabelDriver;I[J)I" } : Jvm.MethodName) method_40_code (4 : Nat) (Option.some Jvm.ClassFile.FieldType.int) [((0 : Nat), (9 : Nat), (12 : Nat), (25 : Nat))]) ∈ lw_all := lw_g (lw_at lw_m9 12 rfl) rfl
theorem q2016 : (Jvm.Cond.methodLink "LabelDriverLaw" (133 : Nat) ({ cls := "LabelDriver", name := "formatBatch", desc := "(I)I" } : Jvm.MethodName)) ∈ lw_all := lw_g (lw_at lw_m9 13 rfl) rfl
theorem q2024 : (Jvm.Cond.classLink "LabelDriverLaw" (137 : Nat) "LabelDriverModel") ∈ lw_all := lw_g (lw_at lw_m9 21 rfl) rfl
theorem q2026 : (Jvm.Cond.methodLink "LabelDriverLaw" (139 : Nat) ({ cls := "LabelDriverModel", name := "<init>", desc := "()V" } : Jvm.MethodName)) ∈ lw_all := lw_g (lw_at lw_m9 23 rfl) rfl
theorem q2141 : (Jvm.Cond.methodLink "LabelDriverLaw" (155 : Nat) ({ cls := "LabelDriverModel", name := "thrown", desc := "()I" } : Jvm.MethodName)) ∈ lw_all := lw_g (lw_at lw_m9 138 rfl) rfl
theorem q2145 : (Jvm.Cond.methodLink "LabelDriverLaw" (143 : Nat) ({ cls := "LabelDriverModel", name := "append", desc := "(IIIII)I" } : Jvm.MethodName)) ∈ lw_all := lw_g (lw_at lw_m9 142 rfl) rfl
theorem q2149 : (Jvm.Cond.methodLink "LabelDriverLaw" (148 : Nat) ({ cls := "LabelDriverModel", name := "truncate", desc := "(I)Z" } : Jvm.MethodName)) ∈ lw_all := lw_g (lw_at lw_m9 146 rfl) rfl
theorem q2153 : (Jvm.Cond.methodLink "LabelDriverLaw" (154 : Nat) ({ cls := "LabelDriverModel", name := "load", desc := "()I" } : Jvm.MethodName)) ∈ lw_all := lw_g (lw_at lw_m9 150 rfl) rfl
theorem q2237 : (Jvm.Cond.methodLink "LabelDriverLaw" (161 : Nat) ({ cls := "LabelDriverModel", name := "errorOffset", desc := "()I" } : Jvm.MethodName)) ∈ lw_all := lw_g (lw_at lw_m9 234 rfl) rfl
theorem q2241 : (Jvm.Cond.methodLink "LabelDriverLaw" (165 : Nat) ({ cls := "LabelDriverModel", name := "errorKind", desc := "()I" } : Jvm.MethodName)) ∈ lw_all := lw_g (lw_at lw_m9 238 rfl) rfl
theorem q2245 : (Jvm.Cond.methodLink "LabelDriverLaw" (322 : Nat) ({ cls := "LabelDriverModel", name := "undo", desc := "()I" } : Jvm.MethodName)) ∈ lw_all := lw_g (lw_at lw_m10 2 rfl) rfl
theorem q2257 : (Jvm.Cond.methodLink "LabelDriverLaw" (326 : Nat) ({ cls := "LabelDriverModel", name := "undoDepth", desc := "()I" } : Jvm.MethodName)) ∈ lw_all := lw_g (lw_at lw_m10 14 rfl) rfl
theorem q2261 : (Jvm.Cond.methodLink "LabelDriverLaw" (169 : Nat) ({ cls := "LabelDriverModel", name := "mountRoll", desc := "(IIIII)I" } : Jvm.MethodName)) ∈ lw_all := lw_g (lw_at lw_m10 18 rfl) rfl
theorem q2273 : (Jvm.Cond.methodLink "LabelDriverLaw" (173 : Nat) ({ cls := "LabelDriverModel", name := "stretch", desc := "(II)I" } : Jvm.MethodName)) ∈ lw_all := lw_g (lw_at lw_m10 30 rfl) rfl
theorem q2281 : (Jvm.Cond.methodLink "LabelDriverLaw" (177 : Nat) ({ cls := "LabelDriverModel", name := "mountRibbon", desc := "(I)I" } : Jvm.MethodName)) ∈ lw_all := lw_g (lw_at lw_m10 38 rfl) rfl
theorem q2286 : (Jvm.Cond.methodLink "LabelDriverLaw" (181 : Nat) ({ cls := "LabelDriverModel", name := "ribbonLeft", desc := "()I" } : Jvm.MethodName)) ∈ lw_all := lw_g (lw_at lw_m10 43 rfl) rfl
theorem q2290 : (Jvm.Cond.methodLink "LabelDriverLaw" (184 : Nat) ({ cls := "LabelDriverModel", name := "position", desc := "()I" } : Jvm.MethodName)) ∈ lw_all := lw_g (lw_at lw_m10 47 rfl) rfl
theorem q2294 : (Jvm.Cond.methodLink "LabelDriverLaw" (187 : Nat) ({ cls := "LabelDriverModel", name := "webEnd", desc := "()I" } : Jvm.MethodName)) ∈ lw_all := lw_g (lw_at lw_m10 51 rfl) rfl
theorem q2298 : (Jvm.Cond.methodLink "LabelDriverLaw" (190 : Nat) ({ cls := "LabelDriverModel", name := "labelBegin", desc := "(I)I" } : Jvm.MethodName)) ∈ lw_all := lw_g (lw_at lw_m10 55 rfl) rfl
theorem q2302 : (Jvm.Cond.methodLink "LabelDriverLaw" (193 : Nat) ({ cls := "LabelDriverModel", name := "lightAt", desc := "(I)I" } : Jvm.MethodName)) ∈ lw_all := lw_g (lw_at lw_m10 59 rfl) rfl
theorem q2314 : (Jvm.Cond.methodLink "LabelDriverLaw" (196 : Nat) ({ cls := "LabelDriverModel", name := "labelUnderHead", desc := "()I" } : Jvm.MethodName)) ∈ lw_all := lw_g (lw_at lw_m10 71 rfl) rfl
theorem q2318 : (Jvm.Cond.methodLink "LabelDriverLaw" (199 : Nat) ({ cls := "LabelDriverModel", name := "feed", desc := "(I)I" } : Jvm.MethodName)) ∈ lw_all := lw_g (lw_at lw_m10 75 rfl) rfl
theorem q2329 : (Jvm.Cond.methodLink "LabelDriverLaw" (202 : Nat) ({ cls := "LabelDriverModel", name := "feedToForm", desc := "()I" } : Jvm.MethodName)) ∈ lw_all := lw_g (lw_at lw_m10 86 rfl) rfl
theorem q2337 : (Jvm.Cond.methodLink "LabelDriverLaw" (205 : Nat) ({ cls := "LabelDriverModel", name := "learn", desc := "()I" } : Jvm.MethodName)) ∈ lw_all := lw_g (lw_at lw_m10 94 rfl) rfl
theorem q2372 : (Jvm.Cond.methodLink "LabelDriverLaw" (210 : Nat) ({ cls := "LabelDriverModel", name := "isReady", desc := "()Z" } : Jvm.MethodName)) ∈ lw_all := lw_g (lw_at lw_m10 129 rfl) rfl
theorem q2376 : (Jvm.Cond.methodLink "LabelDriverLaw" (213 : Nat) ({ cls := "LabelDriverModel", name := "learned", desc := "(I)I" } : Jvm.MethodName)) ∈ lw_all := lw_g (lw_at lw_m10 133 rfl) rfl
theorem q2380 : (Jvm.Cond.methodLink "LabelDriverLaw" (216 : Nat) ({ cls := "LabelDriverModel", name := "gapsSeen", desc := "()I" } : Jvm.MethodName)) ∈ lw_all := lw_g (lw_at lw_m10 137 rfl) rfl
theorem q2384 : (Jvm.Cond.methodLink "LabelDriverLaw" (219 : Nat) ({ cls := "LabelDriverModel", name := "seenTo", desc := "()I" } : Jvm.MethodName)) ∈ lw_all := lw_g (lw_at lw_m10 141 rfl) rfl
theorem q2388 : (Jvm.Cond.methodLink "LabelDriverLaw" (222 : Nat) ({ cls := "LabelDriverModel", name := "backfeed", desc := "()I" } : Jvm.MethodName)) ∈ lw_all := lw_g (lw_at lw_m10 145 rfl) rfl
theorem q2392 : (Jvm.Cond.methodLink "LabelDriverLaw" (225 : Nat) ({ cls := "LabelDriverModel", name := "nextGap", desc := "(I)I" } : Jvm.MethodName)) ∈ lw_all := lw_g (lw_at lw_m10 149 rfl) rfl
theorem q2396 : (Jvm.Cond.methodLink "LabelDriverLaw" (229 : Nat) ({ cls := "LabelDriverModel", name := "lastShift", desc := "()I" } : Jvm.MethodName)) ∈ lw_all := lw_g (lw_at lw_m10 153 rfl) rfl
theorem q2400 : (Jvm.Cond.methodLink "LabelDriverLaw" (232 : Nat) ({ cls := "LabelDriverModel", name := "tearPlace", desc := "()I" } : Jvm.MethodName)) ∈ lw_all := lw_g (lw_at lw_m10 157 rfl) rfl
theorem q2408 : (Jvm.Cond.methodLink "LabelDriverLaw" (235 : Nat) ({ cls := "LabelDriverModel", name := "batchField", desc := "(II)I" } : Jvm.MethodName)) ∈ lw_all := lw_g (lw_at lw_m10 165 rfl) rfl
theorem q2416 : (Jvm.Cond.methodLink "LabelDriverLaw" (238 : Nat) ({ cls := "LabelDriverModel", name := "number", desc := "(II)I" } : Jvm.MethodName)) ∈ lw_all := lw_g (lw_at lw_m10 173 rfl) rfl
theorem q2431 : (Jvm.Cond.methodLink "LabelDriverLaw" (241 : Nat) ({ cls := "LabelDriverModel", name := "checkDigit", desc := "(II)I" } : Jvm.MethodName)) ∈ lw_all := lw_g (lw_at lw_m10 188 rfl) rfl
theorem q2438 : (Jvm.Cond.methodLink "LabelDriverLaw" (244 : Nat) ({ cls := "LabelDriverModel", name := "stateOf", desc := "(II)I" } : Jvm.MethodName)) ∈ lw_all := lw_g (lw_at lw_m10 195 rfl) rfl
theorem q2442 : (Jvm.Cond.methodLink "LabelDriverLaw" (247 : Nat) ({ cls := "LabelDriverModel", name := "attempts", desc := "(II)I" } : Jvm.MethodName)) ∈ lw_all := lw_g (lw_at lw_m10 199 rfl) rfl
theorem q2446 : (Jvm.Cond.methodLink "LabelDriverLaw" (250 : Nat) ({ cls := "LabelDriverModel", name := "countOf", desc := "(II)I" } : Jvm.MethodName)) ∈ lw_all := lw_g (lw_at lw_m10 203 rfl) rfl
theorem q2454 : (Jvm.Cond.methodLink "LabelDriverLaw" (254 : Nat) ({ cls := "LabelDriverModel", name := "mostAttempts", desc := "()I" } : Jvm.MethodName)) ∈ lw_all := lw_g (lw_at lw_m10 211 rfl) rfl
theorem q2465 : (Jvm.Cond.methodLink "LabelDriverLaw" (258 : Nat) ({ cls := "LabelDriverModel", name := "reprints", desc := "()I" } : Jvm.MethodName)) ∈ lw_all := lw_g (lw_at lw_m10 222 rfl) rfl
theorem q2469 : (Jvm.Cond.methodLink "LabelDriverLaw" (262 : Nat) ({ cls := "LabelDriverModel", name := "reprint", desc := "(I)I" } : Jvm.MethodName)) ∈ lw_all := lw_g (lw_at lw_m10 226 rfl) rfl
theorem q2473 : (Jvm.Cond.methodLink "LabelDriverLaw" (266 : Nat) ({ cls := "LabelDriverModel", name := "nextSerial", desc := "()I" } : Jvm.MethodName)) ∈ lw_all := lw_g (lw_at lw_m10 230 rfl) rfl
theorem q2481 : (Jvm.Cond.methodLink "LabelDriverLaw" (269 : Nat) ({ cls := "LabelDriverModel", name := "printedAs", desc := "(I)I" } : Jvm.MethodName)) ∈ lw_all := lw_g (lw_at lw_m10 238 rfl) rfl
theorem q2485 : (Jvm.Cond.methodLink "LabelDriverLaw" (273 : Nat) ({ cls := "LabelDriverModel", name := "verify", desc := "(III)I" } : Jvm.MethodName)) ∈ lw_all := lw_g (lw_at lw_m11 2 rfl) rfl
theorem q2489 : (Jvm.Cond.methodLink "LabelDriverLaw" (277 : Nat) ({ cls := "LabelDriverModel", name := "doubles", desc := "()I" } : Jvm.MethodName)) ∈ lw_all := lw_g (lw_at lw_m11 6 rfl) rfl
theorem q2493 : (Jvm.Cond.methodLink "LabelDriverLaw" (280 : Nat) ({ cls := "LabelDriverModel", name := "run", desc := "(I)I" } : Jvm.MethodName)) ∈ lw_all := lw_g (lw_at lw_m11 10 rfl) rfl
theorem q2525 : (Jvm.Cond.methodLink "LabelDriverLaw" (283 : Nat) ({ cls := "LabelDriverModel", name := "wouldRun", desc := "(II)I" } : Jvm.MethodName)) ∈ lw_all := lw_g (lw_at lw_m11 42 rfl) rfl
theorem q2529 : (Jvm.Cond.methodLink "LabelDriverLaw" (287 : Nat) ({ cls := "LabelDriverModel", name := "logCount", desc := "()I" } : Jvm.MethodName)) ∈ lw_all := lw_g (lw_at lw_m11 46 rfl) rfl
theorem q2533 : (Jvm.Cond.methodLink "LabelDriverLaw" (290 : Nat) ({ cls := "LabelDriverModel", name := "logField", desc := "(II)I" } : Jvm.MethodName)) ∈ lw_all := lw_g (lw_at lw_m11 50 rfl) rfl
theorem q2537 : (Jvm.Cond.methodLink "LabelDriverLaw" (294 : Nat) ({ cls := "LabelDriverModel", name := "printingAt", desc := "(I)I" } : Jvm.MethodName)) ∈ lw_all := lw_g (lw_at lw_m11 54 rfl) rfl
theorem q2541 : (Jvm.Cond.methodLink "LabelDriverLaw" (298 : Nat) ({ cls := "LabelDriverModel", name := "longestRow", desc := "()I" } : Jvm.MethodName)) ∈ lw_all := lw_g (lw_at lw_m11 58 rfl) rfl
theorem q2545 : (Jvm.Cond.methodLink "LabelDriverLaw" (302 : Nat) ({ cls := "LabelDriverModel", name := "trouble", desc := "()I" } : Jvm.MethodName)) ∈ lw_all := lw_g (lw_at lw_m11 62 rfl) rfl
theorem q2549 : (Jvm.Cond.methodLink "LabelDriverLaw" (306 : Nat) ({ cls := "LabelDriverModel", name := "causeOfTrouble", desc := "()I" } : Jvm.MethodName)) ∈ lw_all := lw_g (lw_at lw_m11 66 rfl) rfl
theorem q2553 : (Jvm.Cond.methodLink "LabelDriverLaw" (309 : Nat) ({ cls := "LabelDriverModel", name := "makeVoid", desc := "(II)I" } : Jvm.MethodName)) ∈ lw_all := lw_g (lw_at lw_m11 70 rfl) rfl
theorem q2557 : (Jvm.Cond.methodLink "LabelDriverLaw" (312 : Nat) ({ cls := "LabelDriverModel", name := "requeue", desc := "(II)I" } : Jvm.MethodName)) ∈ lw_all := lw_g (lw_at lw_m11 74 rfl) rfl
theorem q2565 : (Jvm.Cond.methodLink "LabelDriverLaw" (315 : Nat) ({ cls := "LabelDriverModel", name := "unqueue", desc := "(II)I" } : Jvm.MethodName)) ∈ lw_all := lw_g (lw_at lw_m11 82 rfl) rfl
theorem q2569 : (Jvm.Cond.methodLink "LabelDriverLaw" (318 : Nat) ({ cls := "LabelDriverModel", name := "abandon", desc := "(I)I" } : Jvm.MethodName)) ∈ lw_all := lw_g (lw_at lw_m11 86 rfl) rfl
theorem q2573 : (Jvm.Cond.methodLink "LabelDriverLaw" (329 : Nat) ({ cls := "LabelDriverModel", name := "ribbonLasts", desc := "()I" } : Jvm.MethodName)) ∈ lw_all := lw_g (lw_at lw_m11 90 rfl) rfl
theorem q2577 : (Jvm.Cond.methodLink "LabelDriverLaw" (332 : Nat) ({ cls := "LabelDriverModel", name := "webLasts", desc := "()I" } : Jvm.MethodName)) ∈ lw_all := lw_g (lw_at lw_m11 94 rfl) rfl
theorem q2581 : (Jvm.Cond.methodLink "LabelDriverLaw" (336 : Nat) ({ cls := "LabelDriverModel", name := "toPrint", desc := "()I" } : Jvm.MethodName)) ∈ lw_all := lw_g (lw_at lw_m11 98 rfl) rfl
theorem q2585 : (Jvm.Cond.methodLink "LabelDriverLaw" (340 : Nat) ({ cls := "LabelDriverModel", name := "yieldPercent", desc := "()I" } : Jvm.MethodName)) ∈ lw_all := lw_g (lw_at lw_m11 102 rfl) rfl
theorem q2589 : (Jvm.Cond.methodLink "LabelDriverLaw" (343 : Nat) ({ cls := "LabelDriverModel", name := "total", desc := "(I)I" } : Jvm.MethodName)) ∈ lw_all := lw_g (lw_at lw_m11 106 rfl) rfl
theorem q2593 : (Jvm.Cond.methodLink "LabelDriverLaw" (346 : Nat) ({ cls := "LabelDriverModel", name := "formatSerial", desc := "(II)I" } : Jvm.MethodName)) ∈ lw_all := lw_g (lw_at lw_m11 110 rfl) rfl
theorem q2610 : (Jvm.Cond.methodLink "LabelDriverLaw" (349 : Nat) ({ cls := "LabelDriverModel", name := "formatBatch", desc := "(I)I" } : Jvm.MethodName)) ∈ lw_all := lw_g (lw_at lw_m11 127 rfl) rfl
theorem q2614 : (Jvm.Cond.methodLink "LabelDriverLaw" (353 : Nat) ({ cls := "LabelDriverModel", name := "formattedByte", desc := "(I)I" } : Jvm.MethodName)) ∈ lw_all := lw_g (lw_at lw_m11 131 rfl) rfl
