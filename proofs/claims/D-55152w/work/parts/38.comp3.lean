set_option maxRecDepth 100000
theorem fDp_at {w : Nat → Int32} {j : Nat} (h : j < 3) : fDp w j = w (14 + j) := if_pos h
theorem fBr_at {w : Nat → Int32} {s j : Nat} (h : j < 3) : fBr w s j = w (17 + 9 * s + (3 + j)) := if_pos h
set_option maxHeartbeats 4000000 in
set_option maxRecDepth 100000 in
theorem sp_X1_makes {G : GG} {h : HP} {ad : Nat → Nat} {w : Nat → Int32} (hi : cI ad w) (hK : KS G) {x y : Int32} (hB : isB x = true ∧ x.toInt = (tn x : Int) ∧ tn x < 3) (hY : isn y 1 50 = true) : Ct G 7 18 M_X1_makes [.ref (ad 0), .int x, .int y] (cH ad w h) (oQ ad w h (oMake w x y)) := by
  refine ct_intro my_X1_makes (Nat.le_of_ble_eq_true rfl) ?_
  first | refine r_aload_n dX1_makes_0 rfl ?_ | refine r_aload_nq dX1_makes_0 rfl ?_ | refine r_aload_nN dX1_makes_0 rfl ?_
  refine r_getfield 1 3 dX1_makes_1 rfl (Nat.le_of_ble_eq_true rfl) (lkA q302) (Or.inl rfl) (Or.inl (by first | exact c_0 hi | exact c_1 hi | exact c_2 hi | exact c_3 hi | exact c_4 hi | exact c_5 hi | exact c_6 hi)) (by rfl) ?_
  refine r_iload_n dX1_makes_4 rfl ?_
  refine r_iaload (tn x) dX1_makes_5 (Or.inl (by first | exact c_0 hi | exact c_1 hi | exact c_2 hi | exact c_3 hi | exact c_4 hi | exact c_5 hi | exact c_6 hi)) hB.2.1 hB.2.2 (fDp_at hB.2.2) ?_
  refine r_iload_n dX1_makes_6 rfl ?_
  refine r_iadd dX1_makes_7 ?_
  refine r_sipush (v := 200) dX1_makes_8 rfl ?_
  refine r_icmp_le 18 dX1_makes_11 rfl (fun c11 => ?_) (fun c11 => ?_)
  · refine r_iconst (v := 0) dX1_makes_18 rfl ?_
    refine r_bipush (v := 16) dX1_makes_19 rfl ?_
    first | refine r_aload_n dX1_makes_21 rfl ?_ | refine r_aload_nq dX1_makes_21 rfl ?_ | refine r_aload_nN dX1_makes_21 rfl ?_
    refine r_getfield 1 3 dX1_makes_22 rfl (Nat.le_of_ble_eq_true rfl) (lkA q302) (Or.inl rfl) (Or.inl (by first | exact c_0 hi | exact c_1 hi | exact c_2 hi | exact c_3 hi | exact c_4 hi | exact c_5 hi | exact c_6 hi)) (by rfl) ?_
    refine r_iload_n dX1_makes_25 rfl ?_
    refine r_iaload (tn x) dX1_makes_26 (Or.inl (by first | exact c_0 hi | exact c_1 hi | exact c_2 hi | exact c_3 hi | exact c_4 hi | exact c_5 hi | exact c_6 hi)) hB.2.1 hB.2.2 (fDp_at hB.2.2) ?_
    refine r_invSN dX1_makes_27 (sp_X0_refuse0) rfl mo_X0_refuse (lkT q1051 rfl) (lkA q1052) rfl (lkA q64) mp_X0_refuse (Nat.le_of_ble_eq_true rfl) (Nat.le_of_ble_eq_true rfl) (Nat.le_of_ble_eq_true rfl) (kr_e ?_) kx_e
    refine r_iload_n dX1_makes_30 rfl ?_
    refine r_iconst (v := 1) dX1_makes_31 rfl ?_
    refine r_icmp_ne 41 dX1_makes_32 rfl (fun c32 => ?_) (fun c32 => ?_)
    · refine r_iload_n dX1_makes_41 rfl ?_
      refine r_istore_n dX1_makes_42 (Nat.le_of_ble_eq_true rfl) ?_
      first | refine r_aload_n dX1_makes_43 rfl ?_ | refine r_aload_nq dX1_makes_43 rfl ?_ | refine r_aload_nN dX1_makes_43 rfl ?_
      refine r_iload_n dX1_makes_44 rfl ?_
      refine r_invV dX1_makes_45 (sp_X1_pays hi hK) rfl mo_X1_pays (Or.inl (c_0 hi)) rfl (lkA q1153) (lkA q1155) (lkA qs17) rfl (lkA q65) mp_X1_pays (Nat.le_of_ble_eq_true rfl) (Nat.le_of_ble_eq_true rfl) (Nat.le_of_ble_eq_true rfl) (fun v9 h9 p9 => ?_) (fun q9 h9 ci9 fs9 p9 hq9 => (by obtain ⟨e1, e2, rfl⟩ := p9; refine r_out hq9 rfl ?_; rw [show oMake w x y = oR 8 (y - w 4) by unfold oMake gCost; rw [if_pos hB.1, if_pos hY, if_neg (Int32.not_lt.mpr c11), if_neg c32, if_pos e1]]; exact oQ_ref Ext.rf e2))
      obtain ⟨hp, rfl, rfl⟩ := p9
      have hi2 := cI_u (ix := 4) (v := w 4 - y) hi (by omega) (by omega)
      have hi3 := cI_u (ix := 11) (v := w 11 + y) hi2 (by omega) (by omega)
      have hi4 : ∀ v, cI ad (upd (upd (upd w 4 (w 4 - y)) 11 (w 11 + y)) (14 + tn x) v) := fun v => cI_u hi3 (by omega) (by omega)
      have hi5 : ∀ v v2, cI ad (upd (upd (upd (upd w 4 (w 4 - y)) 11 (w 11 + y)) (14 + tn x) v) 5 v2) := fun v v2 => cI_u (hi4 v) (by omega) (by omega)
      first | refine r_aload_n dX1_makes_48 rfl ?_ | refine r_aload_nq dX1_makes_48 rfl ?_ | refine r_aload_nN dX1_makes_48 rfl ?_
      refine r_dup dX1_makes_49 rfl ?_
      refine r_getfield 1 9 dX1_makes_50 rfl (Nat.le_of_ble_eq_true rfl) (lkA q314) (Or.inl rfl) (Or.inl (c_0 hi2)) (show _ = some (Value.int (w 11)) from rfl) ?_
      refine r_iload_n dX1_makes_53 rfl ?_
      refine r_iadd dX1_makes_54 ?_
      refine r_put 1 9 dX1_makes_55 rfl (Nat.le_of_ble_eq_true rfl) (lkA q314) (Or.inl rfl) rfl (c_0 hi2) (by dsimp only [List.set]) (Nat.le_of_ble_eq_true rfl) rfl rfl (cu_11 hi2) ?_
      first | refine r_aload_n dX1_makes_58 rfl ?_ | refine r_aload_nq dX1_makes_58 rfl ?_ | refine r_aload_nN dX1_makes_58 rfl ?_
      refine r_getfield 1 3 dX1_makes_59 rfl (Nat.le_of_ble_eq_true rfl) (lkA q302) (Or.inl rfl) (Or.inl (c_0 hi3)) (by rfl) ?_
      refine r_iload_n dX1_makes_62 rfl ?_
      refine r_dup2 dX1_makes_63 rfl rfl ?_
      refine r_iaload (tn x) dX1_makes_64 (Or.inl (c_6 hi3)) hB.2.1 hB.2.2 (fDp_at hB.2.2) ?_
      refine r_iload_n dX1_makes_65 rfl ?_
      refine r_iadd dX1_makes_66 ?_
      refine r_iastore (tn x) dX1_makes_67 (c_6 hi3) hB.2.1 hB.2.2 ?_
      rw [cu_d hi3 (tn x) hB.2.2]
      first | refine r_aload_n dX1_makes_68 rfl ?_ | refine r_aload_nq dX1_makes_68 rfl ?_ | refine r_aload_nN dX1_makes_68 rfl ?_
      refine r_dup dX1_makes_69 rfl ?_
      refine r_getfield 1 10 dX1_makes_70 rfl (Nat.le_of_ble_eq_true rfl) (lkA q316) (Or.inl rfl) (Or.inl (c_0 (hi4 _))) (by rfl) ?_
      refine r_iload_n dX1_makes_73 rfl ?_
      refine r_iadd dX1_makes_74 ?_
      refine r_put 1 10 dX1_makes_75 rfl (Nat.le_of_ble_eq_true rfl) (lkA q316) (Or.inl rfl) rfl (c_0 (hi4 _)) (by dsimp only [List.set]) (Nat.le_of_ble_eq_true rfl) rfl rfl (cu_5 (hi4 _)) ?_
      first | refine r_aload_n dX1_makes_78 rfl ?_ | refine r_aload_nq dX1_makes_78 rfl ?_ | refine r_aload_nN dX1_makes_78 rfl ?_
      refine r_getfield 1 3 dX1_makes_79 rfl (Nat.le_of_ble_eq_true rfl) (lkA q302) (Or.inl rfl) (Or.inl (c_0 (hi5 _ _))) (by rfl) ?_
      refine r_iload_n dX1_makes_82 rfl ?_
      refine r_iaload (tn x) dX1_makes_83 (Or.inl (c_6 (hi5 _ _))) hB.2.1 hB.2.2 (fDp_at hB.2.2) ?_
      exact r_ireturn dX1_makes_84 rfl (by first | rfl | exact bi_nar) (by rw [show oMake w x y = oK (gMake (gSpend w (y)) (tn x) y (14 + tn x)) (gMake (gSpend w (y)) (tn x) y) by unfold oMake gCost; rw [if_pos hB.1, if_pos hY, if_neg (Int32.not_lt.mpr c11), if_neg c32, if_neg hp]]; exact ⟨rfl, cP_same hi (by simp only [gMake, gSpend]; repeat rw [upd_n (by omega)]) (by simp only [gMake, gSpend]; repeat rw [upd_n (by omega)]) Ext.rf⟩)
    · refine r_iconst (v := 2) dX1_makes_35 rfl ?_
      refine r_iload_n dX1_makes_36 rfl ?_
      refine r_imul dX1_makes_37 ?_
      refine r_goto 42 dX1_makes_38 rfl ?_
      refine r_istore_n dX1_makes_42 (Nat.le_of_ble_eq_true rfl) ?_
      first | refine r_aload_n dX1_makes_43 rfl ?_ | refine r_aload_nq dX1_makes_43 rfl ?_ | refine r_aload_nN dX1_makes_43 rfl ?_
      refine r_iload_n dX1_makes_44 rfl ?_
      refine r_invV dX1_makes_45 (sp_X1_pays hi hK) rfl mo_X1_pays (Or.inl (c_0 hi)) rfl (lkA q1153) (lkA q1155) (lkA qs17) rfl (lkA q65) mp_X1_pays (Nat.le_of_ble_eq_true rfl) (Nat.le_of_ble_eq_true rfl) (Nat.le_of_ble_eq_true rfl) (fun v9 h9 p9 => ?_) (fun q9 h9 ci9 fs9 p9 hq9 => (by obtain ⟨e1, e2, rfl⟩ := p9; refine r_out hq9 rfl ?_; rw [show oMake w x y = oR 8 (2 * y - w 4) by unfold oMake gCost; rw [if_pos hB.1, if_pos hY, if_neg (Int32.not_lt.mpr c11), if_pos c32, if_pos e1]]; exact oQ_ref Ext.rf e2))
      obtain ⟨hp, rfl, rfl⟩ := p9
      have hi2 := cI_u (ix := 4) (v := w 4 - 2 * y) hi (by omega) (by omega)
      have hi3 := cI_u (ix := 11) (v := w 11 + 2 * y) hi2 (by omega) (by omega)
      have hi4 : ∀ v, cI ad (upd (upd (upd w 4 (w 4 - 2 * y)) 11 (w 11 + 2 * y)) (14 + tn x) v) := fun v => cI_u hi3 (by omega) (by omega)
      have hi5 : ∀ v v2, cI ad (upd (upd (upd (upd w 4 (w 4 - 2 * y)) 11 (w 11 + 2 * y)) (14 + tn x) v) 5 v2) := fun v v2 => cI_u (hi4 v) (by omega) (by omega)
      first | refine r_aload_n dX1_makes_48 rfl ?_ | refine r_aload_nq dX1_makes_48 rfl ?_ | refine r_aload_nN dX1_makes_48 rfl ?_
      refine r_dup dX1_makes_49 rfl ?_
      refine r_getfield 1 9 dX1_makes_50 rfl (Nat.le_of_ble_eq_true rfl) (lkA q314) (Or.inl rfl) (Or.inl (c_0 hi2)) (show _ = some (Value.int (w 11)) from rfl) ?_
      refine r_iload_n dX1_makes_53 rfl ?_
      refine r_iadd dX1_makes_54 ?_
      refine r_put 1 9 dX1_makes_55 rfl (Nat.le_of_ble_eq_true rfl) (lkA q314) (Or.inl rfl) rfl (c_0 hi2) (by dsimp only [List.set]) (Nat.le_of_ble_eq_true rfl) rfl rfl (cu_11 hi2) ?_
      first | refine r_aload_n dX1_makes_58 rfl ?_ | refine r_aload_nq dX1_makes_58 rfl ?_ | refine r_aload_nN dX1_makes_58 rfl ?_
      refine r_getfield 1 3 dX1_makes_59 rfl (Nat.le_of_ble_eq_true rfl) (lkA q302) (Or.inl rfl) (Or.inl (c_0 hi3)) (by rfl) ?_
      refine r_iload_n dX1_makes_62 rfl ?_
      refine r_dup2 dX1_makes_63 rfl rfl ?_
      refine r_iaload (tn x) dX1_makes_64 (Or.inl (c_6 hi3)) hB.2.1 hB.2.2 (fDp_at hB.2.2) ?_
      refine r_iload_n dX1_makes_65 rfl ?_
      refine r_iadd dX1_makes_66 ?_
      refine r_iastore (tn x) dX1_makes_67 (c_6 hi3) hB.2.1 hB.2.2 ?_
      rw [cu_d hi3 (tn x) hB.2.2]
      first | refine r_aload_n dX1_makes_68 rfl ?_ | refine r_aload_nq dX1_makes_68 rfl ?_ | refine r_aload_nN dX1_makes_68 rfl ?_
      refine r_dup dX1_makes_69 rfl ?_
      refine r_getfield 1 10 dX1_makes_70 rfl (Nat.le_of_ble_eq_true rfl) (lkA q316) (Or.inl rfl) (Or.inl (c_0 (hi4 _))) (by rfl) ?_
      refine r_iload_n dX1_makes_73 rfl ?_
      refine r_iadd dX1_makes_74 ?_
      refine r_put 1 10 dX1_makes_75 rfl (Nat.le_of_ble_eq_true rfl) (lkA q316) (Or.inl rfl) rfl (c_0 (hi4 _)) (by dsimp only [List.set]) (Nat.le_of_ble_eq_true rfl) rfl rfl (cu_5 (hi4 _)) ?_
      first | refine r_aload_n dX1_makes_78 rfl ?_ | refine r_aload_nq dX1_makes_78 rfl ?_ | refine r_aload_nN dX1_makes_78 rfl ?_
      refine r_getfield 1 3 dX1_makes_79 rfl (Nat.le_of_ble_eq_true rfl) (lkA q302) (Or.inl rfl) (Or.inl (c_0 (hi5 _ _))) (by rfl) ?_
      refine r_iload_n dX1_makes_82 rfl ?_
      refine r_iaload (tn x) dX1_makes_83 (Or.inl (c_6 (hi5 _ _))) hB.2.1 hB.2.2 (fDp_at hB.2.2) ?_
      exact r_ireturn dX1_makes_84 rfl (by first | rfl | exact bi_nar) (by rw [show oMake w x y = oK (gMake (gSpend w (2 * y)) (tn x) y (14 + tn x)) (gMake (gSpend w (2 * y)) (tn x) y) by unfold oMake gCost; rw [if_pos hB.1, if_pos hY, if_neg (Int32.not_lt.mpr c11), if_pos c32, if_neg hp]]; exact ⟨rfl, cP_same hi (by simp only [gMake, gSpend]; repeat rw [upd_n (by omega)]) (by simp only [gMake, gSpend]; repeat rw [upd_n (by omega)]) Ext.rf⟩)
  · refine r_iconst (v := 1) dX1_makes_14 rfl ?_
    refine r_goto 19 dX1_makes_15 rfl ?_
    refine r_bipush (v := 16) dX1_makes_19 rfl ?_
    first | refine r_aload_n dX1_makes_21 rfl ?_ | refine r_aload_nq dX1_makes_21 rfl ?_ | refine r_aload_nN dX1_makes_21 rfl ?_
    refine r_getfield 1 3 dX1_makes_22 rfl (Nat.le_of_ble_eq_true rfl) (lkA q302) (Or.inl rfl) (Or.inl (by first | exact c_0 hi | exact c_1 hi | exact c_2 hi | exact c_3 hi | exact c_4 hi | exact c_5 hi | exact c_6 hi)) (by rfl) ?_
    refine r_iload_n dX1_makes_25 rfl ?_
    refine r_iaload (tn x) dX1_makes_26 (Or.inl (by first | exact c_0 hi | exact c_1 hi | exact c_2 hi | exact c_3 hi | exact c_4 hi | exact c_5 hi | exact c_6 hi)) hB.2.1 hB.2.2 (fDp_at hB.2.2) ?_
    refine r_invSN dX1_makes_27 (sp_X0_refuse1 hK) rfl mo_X0_refuse (lkT q1051 rfl) (lkA q1052) rfl (lkA q64) mp_X0_refuse (Nat.le_of_ble_eq_true rfl) (Nat.le_of_ble_eq_true rfl) (Nat.le_of_ble_eq_true rfl) (fun v9 h9 p9 => ?_) (fun q9 h9 ci9 fs9 p9 hq9 => (by obtain ⟨e2, rfl⟩ := p9; refine r_out hq9 rfl ?_; rw [show oMake w x y = oR 16 (w (14 + tn x)) by unfold oMake; rw [if_pos hB.1, if_pos hY, if_pos (Int32.not_le.mp c11)]]; exact oQ_ref Ext.rf e2))
    exact p9.elim

set_option maxHeartbeats 4000000 in
set_option maxRecDepth 100000 in
theorem sp_X1_soles {G : GG} {h : HP} {ad : Nat → Nat} {w : Nat → Int32} (hi : cI ad w) (hK : KS G) {x : Int32} (hS : isS w x = true ∧ x.toInt = (tn x : Int) ∧ tn x < 4 ∧ (tn x : Int) < (w 2).toInt)  : Ct G 7 18 M_X1_soles [.ref (ad 0), .int x] (cH ad w h) (oQ ad w h (oRenews w x)) := by
  refine ct_intro my_X1_soles (Nat.le_of_ble_eq_true rfl) ?_
  have hs : tn x < tn (w 2) := by have := hS.2.2.2; unfold tn at *; omega
  first | refine r_aload_n dX1_soles_0 rfl ?_ | refine r_aload_nq dX1_soles_0 rfl ?_ | refine r_aload_nN dX1_soles_0 rfl ?_
  refine r_getfield 1 1 dX1_soles_1 rfl (Nat.le_of_ble_eq_true rfl) (lkA q298) (Or.inl rfl) (Or.inl (by first | exact c_0 hi | exact c_1 hi | exact c_2 hi | exact c_3 hi | exact c_4 hi | exact c_5 hi | exact c_6 hi)) (by rfl) ?_
  refine r_iload_n dX1_soles_4 rfl ?_
  refine r_invV dX1_soles_5 (sp_J2_get (c_3 hi) (c_4 hi) hS.2.1 hS.2.2.2 hS.2.2.1 (fSs_at hs)) rfl mo_J2_get (Or.inl (c_3 hi)) rfl (lkA q440) (lkA q441) (lkA q442) rfl (lkA q68) mp_J2_get (Nat.le_of_ble_eq_true rfl) (Nat.le_of_ble_eq_true rfl) (Nat.le_of_ble_eq_true rfl) (kr_e ?_) kx_e
  refine r_castS dX1_soles_8 (Or.inl (c_s hi (tn x) hS.2.2.1 hs)) rfl (lkA q862) ?_
  first | refine r_astore_n dX1_soles_11 (Nat.le_of_ble_eq_true rfl) ?_ | refine r_astore_nq dX1_soles_11 (Nat.le_of_ble_eq_true rfl) ?_ | refine r_astore_nN dX1_soles_11 (Nat.le_of_ble_eq_true rfl) ?_
  first | refine r_aload_n dX1_soles_12 rfl ?_ | refine r_aload_nq dX1_soles_12 rfl ?_ | refine r_aload_nN dX1_soles_12 rfl ?_
  refine r_invS dX1_soles_13 (sp_X1_checkAtDepot hK (c_s hi (tn x) hS.2.2.1 hs)) rfl mo_X1_checkAtDepot (lkA q1173) (lkA q1174) (lkA q65) mp_X1_checkAtDepot (Nat.le_of_ble_eq_true rfl) (Nat.le_of_ble_eq_true rfl) (Nat.le_of_ble_eq_true rfl) (fun v9 h9 p9 => ?_) (fun q9 h9 ci9 fs9 p9 hq9 => (by obtain ⟨e1, e2, rfl⟩ := p9; refine r_out hq9 rfl ?_; rw [show oRenews w x = oR 4 (w (17 + 9 * tn x + 1)) by unfold oRenews; rw [if_pos hS.1]; unfold gRenR gSl; rw [if_neg e1]]; exact oQ_ref Ext.rf e2))
  obtain ⟨hp0, rfl, rfl⟩ := p9
  have hp0 := Classical.not_not.mp hp0
  first | refine r_aload_n dX1_soles_16 rfl ?_ | refine r_aload_nq dX1_soles_16 rfl ?_ | refine r_aload_nN dX1_soles_16 rfl ?_
  refine r_bipush (v := 6) dX1_soles_17 rfl ?_
  refine r_invV dX1_soles_19 (sp_X1_pays hi hK) rfl mo_X1_pays (Or.inl (c_0 hi)) rfl (lkA q1153) (lkA q1155) (lkA qs17) rfl (lkA q65) mp_X1_pays (Nat.le_of_ble_eq_true rfl) (Nat.le_of_ble_eq_true rfl) (Nat.le_of_ble_eq_true rfl) (fun v9 h9 p9 => ?_) (fun q9 h9 ci9 fs9 p9 hq9 => (by obtain ⟨e1, e2, rfl⟩ := p9; refine r_out hq9 rfl ?_; rw [show oRenews w x = oR 8 (6 - w 4) by unfold oRenews; rw [if_pos hS.1]; unfold gRenR gSl; rw [if_pos hp0, if_pos e1]]; exact oQ_ref Ext.rf e2))
  obtain ⟨hp, rfl, rfl⟩ := p9
  have hi2 := cI_u (ix := 4) (v := w 4 - 6) hi (by omega) (by omega)
  have hi3 := cI_u (ix := 11) (v := w 11 + 6) hi2 (by omega) (by omega)
  first | refine r_aload_n dX1_soles_22 rfl ?_ | refine r_aload_nq dX1_soles_22 rfl ?_ | refine r_aload_nN dX1_soles_22 rfl ?_
  refine r_dup dX1_soles_23 rfl ?_
  refine r_getfield 1 9 dX1_soles_24 rfl (Nat.le_of_ble_eq_true rfl) (lkA q314) (Or.inl rfl) (Or.inl (c_0 hi2)) (show _ = some (Value.int (w 11)) from rfl) ?_
  refine r_bipush (v := 6) dX1_soles_27 rfl ?_
  refine r_iadd dX1_soles_29 ?_
  refine r_put 1 9 dX1_soles_30 rfl (Nat.le_of_ble_eq_true rfl) (lkA q314) (Or.inl rfl) rfl (c_0 hi2) (by dsimp only [List.set]) (Nat.le_of_ble_eq_true rfl) rfl rfl (cu_11 hi2) ?_
  first | refine r_aload_n dX1_soles_33 rfl ?_ | refine r_aload_nq dX1_soles_33 rfl ?_ | refine r_aload_nN dX1_soles_33 rfl ?_
  refine r_getfieldN 4 2 dX1_soles_34 rfl (Nat.le_of_ble_eq_true rfl) (lkT q878 rfl) (Or.inl rfl) (Or.inl (c_s hi3 (tn x) hS.2.2.1 hs)) (by rfl) ?_
  refine r_istore_n dX1_soles_37 (Nat.le_of_ble_eq_true rfl) ?_
  first | refine r_aload_n dX1_soles_38 rfl ?_ | refine r_aload_nq dX1_soles_38 rfl ?_ | refine r_aload_nN dX1_soles_38 rfl ?_
  refine r_iconst (v := 0) dX1_soles_39 rfl ?_
  refine r_putN 4 2 dX1_soles_40 rfl (Nat.le_of_ble_eq_true rfl) (lkT q878 rfl) (Or.inl rfl) rfl (c_s hi3 (tn x) hS.2.2.1 hs) (by dsimp only [List.set]) (Nat.le_of_ble_eq_true rfl) rfl rfl (cu_s2 hi3 (tn x) hS.2.2.1 hs) ?_
  refine r_iload_n dX1_soles_43 rfl ?_
  exact r_ireturn dX1_soles_44 rfl (by first | rfl | exact bi_nar) (by rw [show oRenews w x = oK (gSl w (tn x) 2) (upd (gSpend w 6) (17 + 9 * tn x + 2) 0) by unfold oRenews; rw [if_pos hS.1]; unfold gRenR; rw [if_pos (show gSl w (tn x) 1 = 0 from hp0), if_neg hp]]; exact ⟨congrArg (fun z => some (Value.int z)) (by unfold gSl; rw [upd_n (by omega), upd_n (by omega)]), cP_same hi (by simp only [gSpend]; repeat rw [upd_n (by omega)]) (by simp only [gSpend]; repeat rw [upd_n (by omega)]) Ext.rf⟩)

theorem dg_ge {w : Nat → Int32} {h : Nat} (e : 0 ≤ gMd w h) : gDg w h = gMd w h := by
  unfold gDg
  rw [if_neg (Int32.not_lt.mpr e)]
theorem cu_h1y {ad : Nat → Nat} {w : Nat → Int32} {h : HP} {y : Int32} (v : Int32) (hi : cI ad w) (k : Nat) (hk : k < 20) (hy : y = if v - 1 < 0 then -15 else v - 1) : hu (cH ad w h) (ad (10 + k)) (bO 2 [.int (nI k), .int (w (53 + 4 * k)), .int y, .int (w (53 + 4 * k + 2)), .ref (ad (30 + k))]) = cH ad (upd w (53 + 4 * k + 1) v) h := by
  rw [hy]
  exact cu_h1 hi k hk
theorem dog_y {y : Int32} (hy : isn y 0 9 = true) : y = if (y + 1) - 1 < 0 then -15 else (y + 1) - 1 := by
  have h := isn_t.mp hy
  have h0 : (0 : Int32).toInt = 0 := rfl
  have h9 : (9 : Int32).toInt = 9 := rfl
  have e : y + 1 - 1 = y := by
    rw [i32_eq, tI_sub, tI_add]
    simp only [Int32.reduceToInt]
    rw [if_pos (by rw [if_pos (by omega)]; omega), if_pos (by omega)]
    omega
  rw [e, if_neg (by rw [Int32.lt_iff_toInt_lt]; omega)]
set_option maxHeartbeats 4000000 in
set_option maxRecDepth 100000 in
theorem sp_X1_bringsDog {G : GG} {h : HP} {ad : Nat → Nat} {w : Nat → Int32} (hi : cI ad w) (hK : KS G) {x y : Int32} (hH : isH x = true ∧ x.toInt = (tn x : Int) ∧ tn x < 20) (hY : isn y 0 9 = true) : Ct G 7 18 M_X1_bringsDog [.ref (ad 0), .int x, .int y] (cH ad w h) (oQ ad w h (oDog w x y)) := by
  refine ct_intro my_X1_bringsDog (Nat.le_of_ble_eq_true rfl) ?_
  first | refine r_aload_n dX1_bringsDog_0 rfl ?_ | refine r_aload_nq dX1_bringsDog_0 rfl ?_ | refine r_aload_nN dX1_bringsDog_0 rfl ?_
  refine r_getfield 1 0 dX1_bringsDog_1 rfl (Nat.le_of_ble_eq_true rfl) (lkA q296) (Or.inl rfl) (Or.inl (by first | exact c_0 hi | exact c_1 hi | exact c_2 hi | exact c_3 hi | exact c_4 hi | exact c_5 hi | exact c_6 hi)) (by rfl) ?_
  refine r_iload_n dX1_bringsDog_4 rfl ?_
  refine r_invV dX1_bringsDog_5 (sp_J2_get (c_1 hi) (c_2 hi) hH.2.1 (by have := hH.2.2; have h20 : (20 : Int32).toInt = 20 := rfl; omega) hH.2.2 (fHs_at hH.2.2)) rfl mo_J2_get (Or.inl (c_1 hi)) rfl (lkA q440) (lkA q441) (lkA q442) rfl (lkA q68) mp_J2_get (Nat.le_of_ble_eq_true rfl) (Nat.le_of_ble_eq_true rfl) (Nat.le_of_ble_eq_true rfl) (kr_e ?_) kx_e
  refine r_castS dX1_bringsDog_8 (Or.inl (c_h hi (tn x) hH.2.2)) rfl (lkA q176) ?_
  first | refine r_astore_n dX1_bringsDog_11 (Nat.le_of_ble_eq_true rfl) ?_ | refine r_astore_nq dX1_bringsDog_11 (Nat.le_of_ble_eq_true rfl) ?_ | refine r_astore_nN dX1_bringsDog_11 (Nat.le_of_ble_eq_true rfl) ?_
  first | refine r_aload_n dX1_bringsDog_12 rfl ?_ | refine r_aload_nq dX1_bringsDog_12 rfl ?_ | refine r_aload_nN dX1_bringsDog_12 rfl ?_
  refine r_getfieldN 2 2 dX1_bringsDog_13 rfl (Nat.le_of_ble_eq_true rfl) (lkT q212 rfl) (Or.inl rfl) (Or.inl (c_h hi (tn x) hH.2.2)) (by rfl) ?_
  refine r_bipush (v := (-15)) dX1_bringsDog_16 rfl ?_
  refine r_icmp_eq 25 dX1_bringsDog_18 rfl (fun c18 => ?_) (fun c18 => ?_)
  · refine r_iconst (v := 0) dX1_bringsDog_25 rfl ?_
    refine r_bipush (v := 15) dX1_bringsDog_26 rfl ?_
    first | refine r_aload_n dX1_bringsDog_28 rfl ?_ | refine r_aload_nq dX1_bringsDog_28 rfl ?_ | refine r_aload_nN dX1_bringsDog_28 rfl ?_
    refine r_getfieldN 2 2 dX1_bringsDog_29 rfl (Nat.le_of_ble_eq_true rfl) (lkT q212 rfl) (Or.inl rfl) (Or.inl (c_h hi (tn x) hH.2.2)) (by rfl) ?_
    refine r_invSN dX1_bringsDog_32 (sp_X0_refuse0) rfl mo_X0_refuse (lkT q1051 rfl) (lkA q1052) rfl (lkA q64) mp_X0_refuse (Nat.le_of_ble_eq_true rfl) (Nat.le_of_ble_eq_true rfl) (Nat.le_of_ble_eq_true rfl) (kr_e ?_) kx_e
    first | refine r_aload_n dX1_bringsDog_35 rfl ?_ | refine r_aload_nq dX1_bringsDog_35 rfl ?_ | refine r_aload_nN dX1_bringsDog_35 rfl ?_
    refine r_iload_n dX1_bringsDog_36 rfl ?_
    refine r_putN 2 2 dX1_bringsDog_37 rfl (Nat.le_of_ble_eq_true rfl) (lkT q212 rfl) (Or.inl rfl) rfl (c_h hi (tn x) hH.2.2) (by dsimp only [List.set]) (Nat.le_of_ble_eq_true rfl) rfl rfl (cu_h1y (y + 1) hi (tn x) hH.2.2 (dog_y hY)) ?_
    first | refine r_aload_n dX1_bringsDog_40 rfl ?_ | refine r_aload_nq dX1_bringsDog_40 rfl ?_ | refine r_aload_nN dX1_bringsDog_40 rfl ?_
    have hi2 : cI ad (upd w (53 + 4 * tn x + 1) (y + 1)) := cI_u hi (by omega) (by omega)
    refine r_invV dX1_bringsDog_41 (sp_X1_dogs hi2) rfl mo_X1_dogs (Or.inl (c_0 hi2)) rfl (lkA q1138) (lkA q1139) (lkA q1140) rfl (lkA q65) mp_X1_dogs (Nat.le_of_ble_eq_true rfl) (Nat.le_of_ble_eq_true rfl) (Nat.le_of_ble_eq_true rfl) (kr_r (fun v9 h9 p9 => ?_)) kx_r
    obtain ⟨rfl, h1, hx, rfl⟩ := p9
    exact r_ireturn dX1_bringsDog_44 rfl (by first | rfl | exact bi_nar) (by rw [show oDog w x y = oK (gDogs (upd w (53 + 4 * tn x + 1) (y + 1)) 20) (upd w (53 + 4 * tn x + 1) (y + 1)) by unfold oDog; rw [if_pos hH.1, if_pos hY, if_neg (dg_15.mp c18)]]; exact ⟨rfl, cP_same hi (upd_n (by omega)) (upd_n (by omega)) hx⟩)
  · refine r_iconst (v := 1) dX1_bringsDog_21 rfl ?_
    refine r_goto 26 dX1_bringsDog_22 rfl ?_
    refine r_bipush (v := 15) dX1_bringsDog_26 rfl ?_
    first | refine r_aload_n dX1_bringsDog_28 rfl ?_ | refine r_aload_nq dX1_bringsDog_28 rfl ?_ | refine r_aload_nN dX1_bringsDog_28 rfl ?_
    refine r_getfieldN 2 2 dX1_bringsDog_29 rfl (Nat.le_of_ble_eq_true rfl) (lkT q212 rfl) (Or.inl rfl) (Or.inl (c_h hi (tn x) hH.2.2)) (by rfl) ?_
    refine r_invSN dX1_bringsDog_32 (sp_X0_refuse1 hK) rfl mo_X0_refuse (lkT q1051 rfl) (lkA q1052) rfl (lkA q64) mp_X0_refuse (Nat.le_of_ble_eq_true rfl) (Nat.le_of_ble_eq_true rfl) (Nat.le_of_ble_eq_true rfl) (fun v9 h9 p9 => ?_) (fun q9 h9 ci9 fs9 p9 hq9 => (by obtain ⟨e2, rfl⟩ := p9; refine r_out hq9 rfl ?_; rw [show oDog w x y = oR 15 (gDg w (tn x)) by unfold oDog; rw [if_pos hH.1, if_pos hY, if_pos (Decidable.not_not.mp (fun e => c18 (dg_15.mpr e))), dg_ge (Decidable.not_not.mp (fun e => c18 (dg_15.mpr e)))]]; exact oQ_ref Ext.rf e2))
    exact p9.elim

theorem iabs_c {x y : Int32} (hx : 0 ≤ x.toInt ∧ x.toInt ≤ 1000) (hy : 0 ≤ y.toInt ∧ y.toInt ≤ 1000) : iabs (x - y) = iabs (y - x) := by
  unfold iabs
  have h0 : (0 : Int32).toInt = 0 := rfl
  rw [i32_eq]
  have e1 : (x - y).toInt = x.toInt - y.toInt := by rw [tI_sub, if_pos (by omega)]
  have e2 : (y - x).toInt = y.toInt - x.toInt := by rw [tI_sub, if_pos (by omega)]
  have e3 : (0 - (x - y)).toInt = y.toInt - x.toInt := by rw [tI_sub, e1, h0, if_pos (by omega)]; omega
  have e4 : (0 - (y - x)).toInt = x.toInt - y.toInt := by rw [tI_sub, e2, h0, if_pos (by omega)]; omega
  by_cases a : (0 : Int32) ≤ x - y
  · rw [if_pos a]
    rw [Int32.le_iff_toInt_le, e1] at a
    by_cases b : (0 : Int32) ≤ y - x
    · rw [if_pos b]
      rw [Int32.le_iff_toInt_le, e2] at b
      omega
    · rw [if_neg b, e1, e4]
  · rw [if_neg a]
    rw [Int32.le_iff_toInt_le, e1] at a
    by_cases b : (0 : Int32) ≤ y - x
    · rw [if_pos b, e3, e2]
    · rw [Int32.le_iff_toInt_le, e2] at b
      omega
