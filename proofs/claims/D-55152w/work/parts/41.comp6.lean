set_option maxRecDepth 100000
theorem dg_isn {w : Nat → Int32} {h : Nat} : isn (gDg w h) 0 2 = isn (gMd w h) 0 2 := by
  unfold gDg
  by_cases e : gMd w h < 0
  · rw [if_pos e]
    rw [show isn (-15) 0 2 = false from by decide, eq_comm, isn_f]
    rw [Int32.lt_iff_toInt_lt] at e
    omega
  · rw [if_neg e]
def gWd (w : Nat → Int32) (s h b : Nat) (p : Int32) : Int32 := if gListens w s h = true then imin (w (17 + 9 * s + (3 + b))) (imax 0 (3 - p / 3 + (if w (53 + 4 * h + 3) >>> (nI b &&& 31) &&& 1 = 0 then 1 else 0))) else 0
set_option maxHeartbeats 4000000 in
set_option maxRecDepth 100000 in
theorem sp_X1_would {G : GG} {h : HP} {ad : Nat → Nat} {w : Nat → Int32} (hi : cI ad w) (hK : KS G) {y : Int32} (k m b : Nat) (hk : k < 4) (hs : k < tn (w 2)) (hm : m < 20) (hb : b < 3) (h0 : 0 ≤ (w (53 + 4 * m + 3)).toInt) (h7 : (w (53 + 4 * m + 3)).toInt ≤ 7)  : Ct G 3 0 M_X1_would [.ref (ad 0), .ref (ad (70 + k)), .ref (ad (10 + m)), .int (nI b), .int y] (cH ad w h) (eQ (some (.int (gWd w k m b y))) (cH ad w h)) := by
  refine ct_intro my_X1_would (Nat.le_of_ble_eq_true rfl) ?_
  have eb := nIn (show b < 1000 by omega)
  first | refine r_aload_n dX1_would_0 rfl ?_ | refine r_aload_nq dX1_would_0 rfl ?_ | refine r_aload_nN dX1_would_0 rfl ?_
  first | refine r_aload_n dX1_would_1 rfl ?_ | refine r_aload_nq dX1_would_1 rfl ?_ | refine r_aload_nN dX1_would_1 rfl ?_
  refine r_getfieldN 4 0 dX1_would_2 rfl (Nat.le_of_ble_eq_true rfl) (lkT q874 rfl) (Or.inl rfl) (Or.inl (c_s hi k hk hs)) (by rfl) ?_
  refine r_invV dX1_would_5 (sp_X2_listensTo (c_h hi m hm)) rfl mo_X2_listensTo (Or.inl (c_h hi m hm)) rfl (lkA q1330) (lkA q1331) (lkA q1332) rfl (lkA q71) mp_X2_listensTo (Nat.le_of_ble_eq_true rfl) (Nat.le_of_ble_eq_true rfl) (Nat.le_of_ble_eq_true rfl) (kr_e ?_) kx_e
  rw [dg_isn]
  refine r_if_eq 30 dX1_would_8 rfl (fun c8 => ?_) (fun c8 => ?_)
  · refine r_iconst (v := 0) dX1_would_30 rfl ?_
    exact r_ireturn dX1_would_31 rfl (by first | rfl | exact bi_nar) ⟨congrArg (fun z => some (Value.int z)) (by have e : gListens w k m = false := bi_0.mp c8; unfold gWd; rw [e]; rfl), rfl⟩
  · first | refine r_aload_n dX1_would_11 rfl ?_ | refine r_aload_nq dX1_would_11 rfl ?_ | refine r_aload_nN dX1_would_11 rfl ?_
    refine r_getfieldN 4 3 dX1_would_12 rfl (Nat.le_of_ble_eq_true rfl) (lkT q880 rfl) (Or.inl rfl) (Or.inl (c_s hi k hk hs)) (by rfl) ?_
    refine r_iload_n dX1_would_15 rfl ?_
    refine r_iaload (b) dX1_would_16 (Or.inl (c_r hi k hk hs)) eb hb (fBr_at hb) ?_
    first | refine r_aload_n dX1_would_17 rfl ?_ | refine r_aload_nq dX1_would_17 rfl ?_ | refine r_aload_nN dX1_would_17 rfl ?_
    refine r_iload_n dX1_would_18 rfl ?_
    refine r_iload dX1_would_19 rfl ?_
    refine r_invV dX1_would_21 (sp_X2_wants hK (c_h hi m hm) (c_b hi m hm) (c_w hi m hm) h0 h7 (by omega) (by omega)) rfl mo_X2_wants (Or.inl (c_h hi m hm)) rfl (lkA q1335) (lkA q1336) (lkA q1337) rfl (lkA q71) mp_X2_wants (Nat.le_of_ble_eq_true rfl) (Nat.le_of_ble_eq_true rfl) (Nat.le_of_ble_eq_true rfl) (kr_e ?_) kx_e
    refine r_mmin dX1_would_24 (lkA q1344) (lkA q290) (lkA q74) (lkA q291) (Nat.le_of_ble_eq_true rfl) (Nat.le_of_ble_eq_true rfl) ?_
    refine r_goto 31 dX1_would_27 rfl ?_
    exact r_ireturn dX1_would_31 rfl (by first | rfl | exact bi_nar) ⟨congrArg (fun z => some (Value.int z)) (by have e : gListens w k m = true := bi_n0.mp c8; unfold gWd; rw [if_pos e]), rfl⟩

