set_option maxRecDepth 100000
theorem rec_2e {m u : MV} (h : u.2 = (p_record (up m 0 0 0)).2) : u.2 = (p_record (up m 0 0 0)).2 := sorry
set_option maxHeartbeats 4000000 in
theorem D_mountRibbon {X : xT} {d : Nat} {m : MV} {w : va_W} (a1 : Int32) (h : DW X d m w) : MetX X yX1_mountRibbon (.code yX1_mountRibbon cX1_mountRibbon 3 (some .int)) (rmC 14 425 2640) 425 2640 [.ref d, .int a1] w (rdQ X d (p_mountRibbon m a1)) (rdT X d exA (p_mountRibbon m a1)) := sorry
set_option maxHeartbeats 4000000 in
theorem D_makeVoid {X : xT} {d : Nat} {m : MV} {w : va_W} (a1 : Int32) (a2 : Int32) (h : DW X d m w) : MetX X yX1_makeVoid (.code yX1_makeVoid cX1_makeVoid 4 (some .int)) (rmC 14 480 2900) 480 2900 [.ref d, .int a1, .int a2] w (rdQ X d (p_makeVoid m a1 a2)) (rdT X d (ex2 exI exS) (p_makeVoid m a1 a2)) := sorry
theorem pmKc {α : Type} {B cells oth c9 N R D K J PW KN : List α} {c : α} (hc : (cells ++ oth).Perm c9) (e1 : PW = D ++ K) (e2 : KN = K ++ N) : ((B ++ (cells ++ (c :: (N ++ (R ++ (PW ++ J)))))) ++ oth).Perm (B ++ (c9 ++ (R ++ (KN ++ (c :: (D ++ J)))))) := sorry
def adQ (ad : Nat → Nat) (e cap hd tl : Nat) : Nat → Nat := fun k => if k = 130 then e else if k = 131 then cap else if k = 132 then hd else if k = 133 then tl else ad k
set_option maxHeartbeats 4000000 in
theorem D_requeue {X : xT} {d : Nat} {m : MV} {w : va_W} (a1 : Int32) (a2 : Int32) (h : DW X d m w) : MetX X yX1_requeue (.code yX1_requeue cX1_requeue 5 (some .int)) (rmC 14 440 3600) 440 3600 [.ref d, .int a1, .int a2] w (rdQ X d (p_requeue m a1 a2)) (rdT X d (ex2 exI exS) (p_requeue m a1 a2)) := sorry
