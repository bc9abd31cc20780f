set_option maxRecDepth 100000
theorem upd_c {f : Nat → Int32} {i j : Nat} {a b : Int32} (h : i ≠ j) : upd (upd f i a) j b = upd (upd f j b) i a := by
  funext q
  by_cases e1 : q = j
  · subst e1
    rw [upd_s, upd_n (Ne.symm h), upd_s]
  · rw [upd_n e1]
    by_cases e2 : q = i
    · subst e2
      rw [upd_s, upd_s]
    · rw [upd_n e2, upd_n e2, upd_n e1]
theorem cu_go {ad : Nat → Nat} {w : Nat → Int32} {h : HP} {y v2 v8 : Int32} (hi : cI ad w) (k : Nat) (hk : k < 4) (hs : k < tn (w 2)) : hu (cH ad w h) (ad (70 + k)) (bO 4 [.int (w (17 + 9 * k)), .int y, .int v2, .ref (ad (74 + k)), .int (w (17 + 9 * k + 6)), .int (w (17 + 9 * k + 7)), .int v8]) = cH ad (upd (upd (upd w (17 + 9 * k + 2) v2) (17 + 9 * k + 8) v8) (17 + 9 * k + 1) y) h := by
  have i1 : cI ad (upd w (17 + 9 * k + 2) v2) := cI_u hi (by omega) (by omega)
  have i2 : cI ad (upd (upd w (17 + 9 * k + 2) v2) (17 + 9 * k + 8) v8) := cI_u i1 (by omega) (by omega)
  have s1 : k < tn (upd w (17 + 9 * k + 2) v2 2) := by rw [upd_n (by omega)]; exact hs
  have s2 : k < tn (upd (upd w (17 + 9 * k + 2) v2) (17 + 9 * k + 8) v8 2) := by rw [upd_n (by omega)]; exact s1
  rw [← cu_s1 i2 k hk s2, ← cu_s8 i1 k hk s1, ← cu_s2 hi k hk hs, hu_hu, hu_hu]
  simp only [upd_s, upd_n (show 17 + 9 * k ≠ 17 + 9 * k + 2 by omega), upd_n (show 17 + 9 * k + 6 ≠ 17 + 9 * k + 2 by omega), upd_n (show 17 + 9 * k + 7 ≠ 17 + 9 * k + 2 by omega), upd_n (show 17 + 9 * k ≠ 17 + 9 * k + 8 by omega), upd_n (show 17 + 9 * k + 2 ≠ 17 + 9 * k + 8 by omega), upd_n (show 17 + 9 * k + 6 ≠ 17 + 9 * k + 8 by omega), upd_n (show 17 + 9 * k + 7 ≠ 17 + 9 * k + 8 by omega)]
theorem left_lt {m y : Int32} (h : 0 ≤ m.toInt ∧ m.toInt ≤ 480) (hy : 0 ≤ y.toInt ∧ y.toInt ≤ 1000) : 480 < m + y ↔ 480 - m < y := by
  have h4 : (480 : Int32).toInt = 480 := rfl
  rw [Int32.lt_iff_toInt_lt, Int32.lt_iff_toInt_lt, tI_add, tI_sub, if_pos (by omega), if_pos (by omega)]
  omega
theorem iabs_r {x y : Int32} (hx : 0 ≤ x.toInt ∧ x.toInt ≤ 19) (hy : 0 ≤ y.toInt ∧ y.toInt ≤ 19) : 0 ≤ (iabs (x - y)).toInt ∧ (iabs (x - y)).toInt ≤ 19 := by
  unfold iabs
  have h0 : (0 : Int32).toInt = 0 := rfl
  have e1 : (x - y).toInt = x.toInt - y.toInt := by rw [tI_sub, if_pos (by omega)]
  have e3 : (0 - (x - y)).toInt = y.toInt - x.toInt := by rw [tI_sub, e1, h0, if_pos (by omega)]; omega
  by_cases a : (0 : Int32) ≤ x - y
  · rw [if_pos a]
    rw [Int32.le_iff_toInt_le, e1] at a
    omega
  · rw [if_neg a]
    rw [Int32.le_iff_toInt_le, e1] at a
    omega
set_option maxHeartbeats 4000000 in
set_option maxRecDepth 100000 in
theorem sp_X1_goes {G : GG} {h : HP} {ad : Nat → Nat} {w : Nat → Int32} (hi : cI ad w) (hK : KS G) {x y : Int32} (hS : isS w x = true ∧ x.toInt = (tn x : Int) ∧ tn x < 4 ∧ (tn x : Int) < (w 2).toInt) (hH : isH y = true ∧ y.toInt = (tn y : Int) ∧ tn y < 20) (hp : 0 ≤ (w (17 + 9 * tn x + 1)).toInt ∧ (w (17 + 9 * tn x + 1)).toInt ≤ 19) (hm : 0 ≤ (w 1).toInt ∧ (w 1).toInt ≤ 480) : Ct G 7 18 M_X1_goes [.ref (ad 0), .int x, .int y] (cH ad w h) (oQ ad w h (oGoes w x y)) := by
  refine ct_intro my_X1_goes (Nat.le_of_ble_eq_true rfl) ?_
  have hs : tn x < tn (w 2) := by have := hS.2.2.2; unfold tn at *; omega
  have hy9 : 0 ≤ y.toInt ∧ y.toInt ≤ 19 := by have := hH.2.1; have := hH.2.2; omega
  have ew : iabs (w (17 + 9 * tn x + 1) - y) = iabs (y - w (17 + 9 * tn x + 1)) := iabs_c (by omega) (by omega)
  have wr : 0 ≤ (iabs (y - w (17 + 9 * tn x + 1))).toInt ∧ (iabs (y - w (17 + 9 * tn x + 1))).toInt ≤ 1000 := by have := iabs_r hy9 hp; omega
  first | refine r_aload_n dX1_goes_0 rfl ?_ | refine r_aload_nq dX1_goes_0 rfl ?_ | refine r_aload_nN dX1_goes_0 rfl ?_
  refine r_getfield 1 1 dX1_goes_1 rfl (Nat.le_of_ble_eq_true rfl) (lkA q298) (Or.inl rfl) (Or.inl (by first | exact c_0 hi | exact c_1 hi | exact c_2 hi | exact c_3 hi | exact c_4 hi | exact c_5 hi | exact c_6 hi)) (by rfl) ?_
  refine r_iload_n dX1_goes_4 rfl ?_
  refine r_invV dX1_goes_5 (sp_J2_get (c_3 hi) (c_4 hi) hS.2.1 hS.2.2.2 hS.2.2.1 (fSs_at hs)) rfl mo_J2_get (Or.inl (c_3 hi)) rfl (lkA q440) (lkA q441) (lkA q442) rfl (lkA q68) mp_J2_get (Nat.le_of_ble_eq_true rfl) (Nat.le_of_ble_eq_true rfl) (Nat.le_of_ble_eq_true rfl) (kr_e ?_) kx_e
  refine r_castS dX1_goes_8 (Or.inl (c_s hi (tn x) hS.2.2.1 hs)) rfl (lkA q862) ?_
  first | refine r_astore_n dX1_goes_11 (Nat.le_of_ble_eq_true rfl) ?_ | refine r_astore_nq dX1_goes_11 (Nat.le_of_ble_eq_true rfl) ?_ | refine r_astore_nN dX1_goes_11 (Nat.le_of_ble_eq_true rfl) ?_
  first | refine r_aload_n dX1_goes_12 rfl ?_ | refine r_aload_nq dX1_goes_12 rfl ?_ | refine r_aload_nN dX1_goes_12 rfl ?_
  refine r_iload_n dX1_goes_13 rfl ?_
  refine r_invD (owner := "BrushSellers$Placed") dX1_goes_14 (sp_X7_houses (c_s hi (tn x) hS.2.2.1 hs)) rfl mo_X7_houses (Or.inl (c_s hi (tn x) hS.2.2.1 hs)) rfl nw_2 nw_6 q1258 ⟨by decide +kernel, by decide +kernel⟩ nw_8 (lkA q1260) rfl (show _ = some 1 from by decide +kernel) (lkA q102) mp_X7_houses (Nat.le_of_ble_eq_true rfl) (Nat.le_of_ble_eq_true rfl) (Nat.le_of_ble_eq_true rfl) (kr_e ?_) kx_e
  rw [ew]
  refine r_istore dX1_goes_17 (Nat.le_of_ble_eq_true rfl) ?_
  first | refine r_aload_n dX1_goes_19 rfl ?_ | refine r_aload_nq dX1_goes_19 rfl ?_ | refine r_aload_nN dX1_goes_19 rfl ?_
  refine r_iload dX1_goes_20 rfl ?_
  refine r_invV dX1_goes_22 (sp_X4_checkSoles hK (c_s hi (tn x) hS.2.2.1 hs)) rfl mo_X4_checkSoles (Or.inl (c_s hi (tn x) hS.2.2.1 hs)) rfl (lkA q1269) (lkA q1270) (lkA q1271) rfl (lkA q91) mp_X4_checkSoles (Nat.le_of_ble_eq_true rfl) (Nat.le_of_ble_eq_true rfl) (Nat.le_of_ble_eq_true rfl) (fun v9 h9 p9 => ?_) (fun q9 h9 ci9 fs9 p9 hq9 => (by obtain ⟨e1, e2, rfl⟩ := p9; refine r_out hq9 rfl ?_; rw [show oGoes w x y = oR 2 (w (17 + 9 * tn x + 2) + iabs (y - w (17 + 9 * tn x + 1)) - 100) by unfold oGoes; rw [if_pos ⟨hS.1, hH.1⟩]; unfold gGoR gSl gLeft; rw [if_pos e1]]; exact oQ_ref Ext.rf e2))
  obtain ⟨g1, rfl, rfl⟩ := p9
  first | refine r_aload_n dX1_goes_25 rfl ?_ | refine r_aload_nq dX1_goes_25 rfl ?_ | refine r_aload_nN dX1_goes_25 rfl ?_
  refine r_iload dX1_goes_26 rfl ?_
  refine r_invV dX1_goes_28 (sp_X1_checkMinutes hi hK) rfl mo_X1_checkMinutes (Or.inl (c_0 hi)) rfl (lkA q1274) (lkA q1276) (lkA qs18) rfl (lkA q65) mp_X1_checkMinutes (Nat.le_of_ble_eq_true rfl) (Nat.le_of_ble_eq_true rfl) (Nat.le_of_ble_eq_true rfl) (fun v9 h9 p9 => ?_) (fun q9 h9 ci9 fs9 p9 hq9 => (by obtain ⟨e1, e2, rfl⟩ := p9; refine r_out hq9 rfl ?_; rw [show oGoes w x y = oR 3 (480 - w 1) by unfold oGoes; rw [if_pos ⟨hS.1, hH.1⟩]; unfold gGoR gSl gLeft; rw [if_neg g1, if_pos ((left_lt hm wr).mp e1)]]; exact oQ_ref Ext.rf e2))
  obtain ⟨g2, rfl, rfl⟩ := p9
  have g2 : ¬ 480 - w 1 < iabs (y - w (17 + 9 * tn x + 1)) := fun e => g2 ((left_lt hm wr).mpr e)
  first | refine r_aload_n dX1_goes_31 rfl ?_ | refine r_aload_nq dX1_goes_31 rfl ?_ | refine r_aload_nN dX1_goes_31 rfl ?_
  refine r_iload_n dX1_goes_32 rfl ?_
  refine r_invV dX1_goes_33 (sp_X4_goesTo (c_s hi (tn x) hS.2.2.1 hs)) rfl mo_X4_goesTo (Or.inl (c_s hi (tn x) hS.2.2.1 hs)) rfl (lkA q1278) (lkA q1279) (lkA q1280) rfl (lkA q91) mp_X4_goesTo (Nat.le_of_ble_eq_true rfl) (Nat.le_of_ble_eq_true rfl) (Nat.le_of_ble_eq_true rfl) (kr_e ?_) kx_e
  rw [ew, cu_go hi (tn x) hS.2.2.1 hs]
  have i3 : cI ad (upd (upd (upd w (17 + 9 * tn x + 2) (w (17 + 9 * tn x + 2) + iabs (y - w (17 + 9 * tn x + 1)))) (17 + 9 * tn x + 8) (w (17 + 9 * tn x + 8) + iabs (y - w (17 + 9 * tn x + 1)))) (17 + 9 * tn x + 1) y) := cI_u (cI_u (cI_u hi (by omega) (by omega)) (by omega) (by omega)) (by omega) (by omega)
  have n1 : (upd (upd (upd w (17 + 9 * tn x + 2) (w (17 + 9 * tn x + 2) + iabs (y - w (17 + 9 * tn x + 1)))) (17 + 9 * tn x + 8) (w (17 + 9 * tn x + 8) + iabs (y - w (17 + 9 * tn x + 1)))) (17 + 9 * tn x + 1) y) 1 = w 1 := by rw [upd_n (by omega), upd_n (by omega), upd_n (by omega)]
  have hs3 : tn x < tn ((upd (upd (upd w (17 + 9 * tn x + 2) (w (17 + 9 * tn x + 2) + iabs (y - w (17 + 9 * tn x + 1)))) (17 + 9 * tn x + 8) (w (17 + 9 * tn x + 8) + iabs (y - w (17 + 9 * tn x + 1)))) (17 + 9 * tn x + 1) y) 2) := by rw [upd_n (by omega), upd_n (by omega), upd_n (by omega)]; exact hs
  first | refine r_aload_n dX1_goes_36 rfl ?_ | refine r_aload_nq dX1_goes_36 rfl ?_ | refine r_aload_nN dX1_goes_36 rfl ?_
  refine r_dup dX1_goes_37 rfl ?_
  refine r_getfield 1 5 dX1_goes_38 rfl (Nat.le_of_ble_eq_true rfl) (lkA q306) (Or.inl rfl) (Or.inl (c_0 i3)) (by rfl) ?_
  refine r_iload dX1_goes_41 rfl ?_
  refine r_iadd dX1_goes_43 ?_
  rw [n1]
  refine r_put 1 5 dX1_goes_44 rfl (Nat.le_of_ble_eq_true rfl) (lkA q306) (Or.inl rfl) rfl (c_0 i3) (by dsimp only [List.set]) (Nat.le_of_ble_eq_true rfl) rfl rfl (cu_1 i3) ?_
  first | refine r_aload_n dX1_goes_47 rfl ?_ | refine r_aload_nq dX1_goes_47 rfl ?_ | refine r_aload_nN dX1_goes_47 rfl ?_
  refine r_getfieldN 4 2 dX1_goes_48 rfl (Nat.le_of_ble_eq_true rfl) (lkT q878 rfl) (Or.inl rfl) (Or.inl (c_s (cI_u i3 (by omega) (by omega)) (tn x) hS.2.2.1 (by rw [upd_n (by omega)]; exact hs3))) (by rfl) ?_
  exact r_ireturn dX1_goes_51 rfl (by first | rfl | exact bi_nar) (by rw [show oGoes w x y = oK (gSl w (tn x) 2 + iabs (y - w (17 + 9 * tn x + 1))) (gGo w (tn x) y (iabs (y - w (17 + 9 * tn x + 1)))) by unfold oGoes; rw [if_pos ⟨hS.1, hH.1⟩]; unfold gGoR; rw [if_neg (show ¬ 100 < gSl w (tn x) 2 + iabs (y - gSl w (tn x) 1) from g1), if_neg (show ¬ gLeft w < iabs (y - gSl w (tn x) 1) from g2)]; rfl]; refine ⟨congrArg (fun z => some (Value.int z)) (by rw [upd_n (by omega), upd_n (by omega), upd_n (by omega), upd_s]; rfl), ?_⟩; rw [upd_c (show 17 + 9 * tn x + 1 ≠ 1 by omega)]; exact cP_same hi (by show gGo w (tn x) y _ 2 = w 2; unfold gGo; repeat rw [upd_n (by omega)]) (by show gGo w (tn x) y _ 3 = w 3; unfold gGo; repeat rw [upd_n (by omega)]) Ext.rf)

theorem dg_upd {w : Nat → Int32} {h : Nat} {v y : Int32} (hy : y = if v - 1 < 0 then -15 else v - 1) : gDg (upd w (53 + 4 * h + 1) v) h = y := by
  unfold gDg gMd
  rw [upd_s, hy]
theorem pet_y {y : Int32} (h0 : 0 ≤ y.toInt) (h9 : y.toInt ≤ 9) : isn (imax 0 (y - 2)) 0 9 = true := by
  have e : (y - 2).toInt = y.toInt - 2 := by rw [tI_sub, if_pos (by simp only [Int32.reduceToInt]; omega)]; rfl
  rw [isn_t]
  unfold imax
  have h00 : (0 : Int32).toInt = 0 := rfl
  have h99 : (9 : Int32).toInt = 9 := rfl
  by_cases c : (0 : Int32) < y - 2
  · rw [if_pos c]
    rw [Int32.lt_iff_toInt_lt] at c
    omega
  · rw [if_neg c]
    omega
set_option maxHeartbeats 4000000 in
set_option maxRecDepth 100000 in
theorem sp_X1_pets {G : GG} {h : HP} {ad : Nat → Nat} {w : Nat → Int32} (hi : cI ad w) (hK : KS G) {x : Int32} (hS : isS w x = true ∧ x.toInt = (tn x : Int) ∧ tn x < 4 ∧ (tn x : Int) < (w 2).toInt) (P : Nat) (hP : (w (17 + 9 * tn x + 1)).toInt = (P : Int)) (hP20 : P < 20) (hm9 : (gMd w P).toInt ≤ 9) : Ct G 7 18 M_X1_pets [.ref (ad 0), .int x] (cH ad w h) (oQ ad w h (oPets w x)) := by
  refine ct_intro my_X1_pets (Nat.le_of_ble_eq_true rfl) ?_
  have hs : tn x < tn (w 2) := by have := hS.2.2.2; unfold tn at *; omega
  have hPt : tn (gSl w (tn x) 1) = P := by show (w (17 + 9 * tn x + 1)).toInt.toNat = P; rw [hP]; rfl
  first | refine r_aload_n dX1_pets_0 rfl ?_ | refine r_aload_nq dX1_pets_0 rfl ?_ | refine r_aload_nN dX1_pets_0 rfl ?_
  refine r_getfield 1 1 dX1_pets_1 rfl (Nat.le_of_ble_eq_true rfl) (lkA q298) (Or.inl rfl) (Or.inl (by first | exact c_0 hi | exact c_1 hi | exact c_2 hi | exact c_3 hi | exact c_4 hi | exact c_5 hi | exact c_6 hi)) (by rfl) ?_
  refine r_iload_n dX1_pets_4 rfl ?_
  refine r_invV dX1_pets_5 (sp_J2_get (c_3 hi) (c_4 hi) hS.2.1 hS.2.2.2 hS.2.2.1 (fSs_at hs)) rfl mo_J2_get (Or.inl (c_3 hi)) rfl (lkA q440) (lkA q441) (lkA q442) rfl (lkA q68) mp_J2_get (Nat.le_of_ble_eq_true rfl) (Nat.le_of_ble_eq_true rfl) (Nat.le_of_ble_eq_true rfl) (kr_e ?_) kx_e
  refine r_castS dX1_pets_8 (Or.inl (c_s hi (tn x) hS.2.2.1 hs)) rfl (lkA q862) ?_
  first | refine r_astore_n dX1_pets_11 (Nat.le_of_ble_eq_true rfl) ?_ | refine r_astore_nq dX1_pets_11 (Nat.le_of_ble_eq_true rfl) ?_ | refine r_astore_nN dX1_pets_11 (Nat.le_of_ble_eq_true rfl) ?_
  first | refine r_aload_n dX1_pets_12 rfl ?_ | refine r_aload_nq dX1_pets_12 rfl ?_ | refine r_aload_nN dX1_pets_12 rfl ?_
  refine r_getfield 1 0 dX1_pets_13 rfl (Nat.le_of_ble_eq_true rfl) (lkA q296) (Or.inl rfl) (Or.inl (by first | exact c_0 hi | exact c_1 hi | exact c_2 hi | exact c_3 hi | exact c_4 hi | exact c_5 hi | exact c_6 hi)) (by rfl) ?_
  first | refine r_aload_n dX1_pets_16 rfl ?_ | refine r_aload_nq dX1_pets_16 rfl ?_ | refine r_aload_nN dX1_pets_16 rfl ?_
  refine r_getfieldN 4 1 dX1_pets_17 rfl (Nat.le_of_ble_eq_true rfl) (lkT q876 rfl) (Or.inl rfl) (Or.inl (c_s hi (tn x) hS.2.2.1 hs)) (by rfl) ?_
  refine r_invV dX1_pets_20 (sp_J2_get (c_1 hi) (c_2 hi) hP (by have h20 : (20 : Int32).toInt = 20 := rfl; omega) hP20 (fHs_at hP20)) rfl mo_J2_get (Or.inl (c_1 hi)) rfl (lkA q440) (lkA q441) (lkA q442) rfl (lkA q68) mp_J2_get (Nat.le_of_ble_eq_true rfl) (Nat.le_of_ble_eq_true rfl) (Nat.le_of_ble_eq_true rfl) (kr_e ?_) kx_e
  refine r_castS dX1_pets_23 (Or.inl (c_h hi P hP20)) rfl (lkA q176) ?_
  first | refine r_astore_n dX1_pets_26 (Nat.le_of_ble_eq_true rfl) ?_ | refine r_astore_nq dX1_pets_26 (Nat.le_of_ble_eq_true rfl) ?_ | refine r_astore_nN dX1_pets_26 (Nat.le_of_ble_eq_true rfl) ?_
  first | refine r_aload_n dX1_pets_27 rfl ?_ | refine r_aload_nq dX1_pets_27 rfl ?_ | refine r_aload_nN dX1_pets_27 rfl ?_
  refine r_getfieldN 2 2 dX1_pets_28 rfl (Nat.le_of_ble_eq_true rfl) (lkT q212 rfl) (Or.inl rfl) (Or.inl (c_h hi P hP20)) (by rfl) ?_
  refine r_bipush (v := (-15)) dX1_pets_31 rfl ?_
  refine r_icmp_ne 40 dX1_pets_33 rfl (fun c33 => ?_) (fun c33 => ?_)
  · refine r_iconst (v := 0) dX1_pets_40 rfl ?_
    refine r_bipush (v := 10) dX1_pets_41 rfl ?_
    first | refine r_aload_n dX1_pets_43 rfl ?_ | refine r_aload_nq dX1_pets_43 rfl ?_ | refine r_aload_nN dX1_pets_43 rfl ?_
    refine r_getfieldN 2 0 dX1_pets_44 rfl (Nat.le_of_ble_eq_true rfl) (lkT q208 rfl) (Or.inl rfl) (Or.inl (c_h hi P hP20)) (by rfl) ?_
    refine r_invSN dX1_pets_47 (sp_X0_refuse0) rfl mo_X0_refuse (lkT q1051 rfl) (lkA q1052) rfl (lkA q64) mp_X0_refuse (Nat.le_of_ble_eq_true rfl) (Nat.le_of_ble_eq_true rfl) (Nat.le_of_ble_eq_true rfl) (kr_e ?_) kx_e
    have gm : 0 ≤ gMd w P := Decidable.not_not.mp (fun e => c33 (dg_15.mpr e))
    have dgP : gDg w P = gMd w P := dg_ge gm
    first | refine r_aload_n dX1_pets_50 rfl ?_ | refine r_aload_nq dX1_pets_50 rfl ?_ | refine r_aload_nN dX1_pets_50 rfl ?_
    refine r_invV dX1_pets_51 (sp_X2_isGuarded (c_h hi P hP20)) rfl mo_X2_isGuarded (Or.inl (c_h hi P hP20)) rfl (lkA q1298) (lkA q1299) (lkA q1300) rfl (lkA q71) mp_X2_isGuarded (Nat.le_of_ble_eq_true rfl) (Nat.le_of_ble_eq_true rfl) (Nat.le_of_ble_eq_true rfl) (kr_e ?_) kx_e
    rw [dgP]
    refine r_if_ne 76 dX1_pets_54 rfl (fun c54 => ?_) (fun c54 => ?_)
    · first | refine r_aload_n dX1_pets_76 rfl ?_ | refine r_aload_nq dX1_pets_76 rfl ?_ | refine r_aload_nN dX1_pets_76 rfl ?_
      refine r_bipush (v := 10) dX1_pets_77 rfl ?_
      refine r_invV dX1_pets_79 (sp_X4_checkSoles hK (c_s hi (tn x) hS.2.2.1 hs)) rfl mo_X4_checkSoles (Or.inl (c_s hi (tn x) hS.2.2.1 hs)) rfl (lkA q1269) (lkA q1270) (lkA q1271) rfl (lkA q91) mp_X4_checkSoles (Nat.le_of_ble_eq_true rfl) (Nat.le_of_ble_eq_true rfl) (Nat.le_of_ble_eq_true rfl) (fun v9 h9 p9 => ?_) (fun q9 h9 ci9 fs9 p9 hq9 => (by obtain ⟨e1, e2, rfl⟩ := p9; refine r_out hq9 rfl ?_; rw [show oPets w x = oR 2 (w (17 + 9 * tn x + 2) + 10 - 100) by unfold oPets; rw [if_pos hS.1, hPt]; unfold gPetR; rw [if_neg (Int32.not_lt.mpr gm), if_pos (of_decide_eq_true (bi_n0.mp c54))]; unfold gSl; rw [if_pos e1]]; exact oQ_ref Ext.rf e2))
      obtain ⟨g1, rfl, rfl⟩ := p9
      have i2 : cI ad (upd w (17 + 9 * tn x + 2) (w (17 + 9 * tn x + 2) + 10)) := cI_u hi (by omega) (by omega)
      have i3 : cI ad (upd (upd w (17 + 9 * tn x + 2) (w (17 + 9 * tn x + 2) + 10)) (53 + 4 * P + 1) 10) := cI_u i2 (by omega) (by omega)
      first | refine r_aload_n dX1_pets_82 rfl ?_ | refine r_aload_nq dX1_pets_82 rfl ?_ | refine r_aload_nN dX1_pets_82 rfl ?_
      refine r_dup dX1_pets_83 rfl ?_
      refine r_getfieldN 4 2 dX1_pets_84 rfl (Nat.le_of_ble_eq_true rfl) (lkT q878 rfl) (Or.inl rfl) (Or.inl (c_s hi (tn x) hS.2.2.1 hs)) (by rfl) ?_
      refine r_bipush (v := 10) dX1_pets_87 rfl ?_
      refine r_iadd dX1_pets_89 ?_
      refine r_putN 4 2 dX1_pets_90 rfl (Nat.le_of_ble_eq_true rfl) (lkT q878 rfl) (Or.inl rfl) rfl (c_s hi (tn x) hS.2.2.1 hs) (by dsimp only [List.set]) (Nat.le_of_ble_eq_true rfl) rfl rfl (cu_s2 hi (tn x) hS.2.2.1 hs) ?_
      first | refine r_aload_n dX1_pets_93 rfl ?_ | refine r_aload_nq dX1_pets_93 rfl ?_ | refine r_aload_nN dX1_pets_93 rfl ?_
      refine r_bipush (v := 9) dX1_pets_94 rfl ?_
      refine r_putN 2 2 dX1_pets_96 rfl (Nat.le_of_ble_eq_true rfl) (lkT q212 rfl) (Or.inl rfl) rfl (c_h i2 P hP20) (by dsimp only [List.set]) (Nat.le_of_ble_eq_true rfl) rfl rfl (cu_h1y 10 i2 P hP20 (by decide)) ?_
      first | refine r_aload_n dX1_pets_99 rfl ?_ | refine r_aload_nq dX1_pets_99 rfl ?_ | refine r_aload_nN dX1_pets_99 rfl ?_
      refine r_dup dX1_pets_100 rfl ?_
      refine r_getfield 1 13 dX1_pets_101 rfl (Nat.le_of_ble_eq_true rfl) (lkA q322) (Or.inl rfl) (Or.inl (c_0 i3)) (show some (Value.int ((upd (upd w (17 + 9 * tn x + 2) (w (17 + 9 * tn x + 2) + 10)) (53 + 4 * P + 1) 10) 13)) = some (Value.int (w 13)) by rw [upd_n (by omega), upd_n (by omega)]) ?_
      refine r_iconst (v := 1) dX1_pets_104 rfl ?_
      refine r_iadd dX1_pets_105 ?_
      refine r_put 1 13 dX1_pets_106 rfl (Nat.le_of_ble_eq_true rfl) (lkA q322) (Or.inl rfl) rfl (c_0 i3) (by dsimp only [List.set]) (Nat.le_of_ble_eq_true rfl) rfl rfl (cu_13 i3) ?_
      first | refine r_aload_n dX1_pets_109 rfl ?_ | refine r_aload_nq dX1_pets_109 rfl ?_ | refine r_aload_nN dX1_pets_109 rfl ?_
      refine r_getfieldN 2 2 dX1_pets_110 rfl (Nat.le_of_ble_eq_true rfl) (lkT q212 rfl) (Or.inl rfl) (Or.inl (c_h (cI_u i3 (by omega) (by omega)) P hP20)) (show some (Value.int (gDg (upd (upd (upd w (17 + 9 * tn x + 2) (w (17 + 9 * tn x + 2) + 10)) (53 + 4 * P + 1) 10) 13 (w 13 + 1)) P)) = some (Value.int 9) by rw [← upd_c (show 13 ≠ 53 + 4 * P + 1 by omega), dg_upd (show (9 : Int32) = _ by decide)]) ?_
      exact r_ireturn dX1_pets_113 rfl (by first | rfl | exact bi_nar) (by rw [show oPets w x = oK 9 (upd (upd (upd w (17 + 9 * tn x + 2) (w (17 + 9 * tn x + 2) + 10)) 13 (w 13 + 1)) (53 + 4 * P + 1) 10) by unfold oPets; rw [if_pos hS.1, hPt]; unfold gPetR; rw [if_neg (Int32.not_lt.mpr gm), if_pos (of_decide_eq_true (bi_n0.mp c54)), if_neg (show ¬ 100 < gSl w (tn x) 2 + 10 from g1)]; rfl, upd_c (show 13 ≠ 53 + 4 * P + 1 by omega)]; refine ⟨rfl, cP_same hi ?_ ?_ Ext.rf⟩ <;> dsimp only <;> (repeat rw [upd_n (by omega)]))
    · first | refine r_aload_n dX1_pets_57 rfl ?_ | refine r_aload_nq dX1_pets_57 rfl ?_ | refine r_aload_nN dX1_pets_57 rfl ?_
      refine r_iconst (v := 0) dX1_pets_58 rfl ?_
      first | refine r_aload_n dX1_pets_59 rfl ?_ | refine r_aload_nq dX1_pets_59 rfl ?_ | refine r_aload_nN dX1_pets_59 rfl ?_
      refine r_getfieldN 2 2 dX1_pets_60 rfl (Nat.le_of_ble_eq_true rfl) (lkT q212 rfl) (Or.inl rfl) (Or.inl (c_h hi P hP20)) (show some (Value.int (gDg w P)) = some (Value.int (gMd w P)) by rw [dgP]) ?_
      refine r_iconst (v := 2) dX1_pets_63 rfl ?_
      refine r_isub dX1_pets_64 ?_
      refine r_mmax dX1_pets_65 (lkA q1302) (lkA q248) (lkA q74) (lkA q249) (Nat.le_of_ble_eq_true rfl) (Nat.le_of_ble_eq_true rfl) ?_
      have hy := dog_y (pet_y (Int32.le_iff_toInt_le.mp gm) hm9)
      refine r_putN 2 2 dX1_pets_68 rfl (Nat.le_of_ble_eq_true rfl) (lkT q212 rfl) (Or.inl rfl) rfl (c_h hi P hP20) (by dsimp only [List.set]) (Nat.le_of_ble_eq_true rfl) rfl rfl (cu_h1y ((imax 0 (gMd w P - 2)) + 1) hi P hP20 hy) ?_
      first | refine r_aload_n dX1_pets_71 rfl ?_ | refine r_aload_nq dX1_pets_71 rfl ?_ | refine r_aload_nN dX1_pets_71 rfl ?_
      refine r_getfieldN 2 2 dX1_pets_72 rfl (Nat.le_of_ble_eq_true rfl) (lkT q212 rfl) (Or.inl rfl) (Or.inl (c_h (cI_u hi (by omega) (by omega)) P hP20)) (show some (Value.int (gDg (upd w (53 + 4 * P + 1) ((imax 0 (gMd w P - 2)) + 1)) P)) = some (Value.int (imax 0 (gMd w P - 2))) by rw [dg_upd hy]) ?_
      exact r_ireturn dX1_pets_75 rfl (by first | rfl | exact bi_nar) (by rw [show oPets w x = oK (imax 0 (gMd w P - 2)) (upd w (53 + 4 * P + 1) ((imax 0 (gMd w P - 2)) + 1)) by unfold oPets; rw [if_pos hS.1, hPt]; unfold gPetR; rw [if_neg (Int32.not_lt.mpr gm), if_neg (of_decide_eq_false (bi_0.mp c54))]]; exact ⟨rfl, cP_same hi (upd_n (by omega)) (upd_n (by omega)) Ext.rf⟩)
  · refine r_iconst (v := 1) dX1_pets_36 rfl ?_
    refine r_goto 41 dX1_pets_37 rfl ?_
    refine r_bipush (v := 10) dX1_pets_41 rfl ?_
    first | refine r_aload_n dX1_pets_43 rfl ?_ | refine r_aload_nq dX1_pets_43 rfl ?_ | refine r_aload_nN dX1_pets_43 rfl ?_
    refine r_getfieldN 2 0 dX1_pets_44 rfl (Nat.le_of_ble_eq_true rfl) (lkT q208 rfl) (Or.inl rfl) (Or.inl (c_h hi P hP20)) (by rfl) ?_
    refine r_invSN dX1_pets_47 (sp_X0_refuse1 hK) rfl mo_X0_refuse (lkT q1051 rfl) (lkA q1052) rfl (lkA q64) mp_X0_refuse (Nat.le_of_ble_eq_true rfl) (Nat.le_of_ble_eq_true rfl) (Nat.le_of_ble_eq_true rfl) (fun v9 h9 p9 => ?_) (fun q9 h9 ci9 fs9 p9 hq9 => (by obtain ⟨e2, rfl⟩ := p9; refine r_out hq9 rfl ?_; rw [show oPets w x = oR 10 (nI P) by unfold oPets; rw [if_pos hS.1, hPt]; unfold gPetR; rw [if_pos (Int32.not_le.mp (dg_15.mp c33))]]; exact oQ_ref Ext.rf e2))
    exact p9.elim

