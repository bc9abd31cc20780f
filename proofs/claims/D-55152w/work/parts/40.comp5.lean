set_option maxRecDepth 100000
/-- two checks: the first that fails throws -/
def t2Q (P1 : Prop) (b1 : Bd) (P2 : Prop) (b2 : Bd) (h : HP) : Oc → HP → Prop := fun o h' => match o with
  | .inl v => ¬ P1 ∧ ¬ P2 ∧ v = none ∧ h' = h
  | .inr q => h q = none ∧ ((P1 ∧ h' = hu h q b1) ∨ (¬ P1 ∧ P2 ∧ h' = hu h q b2))
set_option maxHeartbeats 4000000 in
set_option maxRecDepth 100000 in
theorem sp_X1_checkFilling {G : GG} {h : HP} (hK : KS G) {a : Nat} {c p w s b g : Int32} {r : Nat} {x n t : Int32} {f : Nat → Int32} {j : Nat} (ha : h a = some (bO 4 [.int c, .int p, .int w, .ref r, .int s, .int b, .int g])) (hr : h r = some (bI 0 3 f)) (hj : x.toInt = (j : Int)) (hj3 : j < 3) : Ct G 6 18 M_X1_checkFilling [.ref a, .int x, .int n, .int t] h (t2Q (t < n) (bRef 5 (n - t)) (12 - f j < n) (bRef 6 (12 - f j)) h) := by
  refine ct_intro my_X1_checkFilling (Nat.le_of_ble_eq_true rfl) ?_
  refine r_iload_n dX1_checkFilling_0 rfl ?_
  refine r_iload_n dX1_checkFilling_1 rfl ?_
  refine r_icmp_ge 9 dX1_checkFilling_2 rfl (fun c2 => ?_) (fun c2 => ?_)
  · refine r_iconst (v := 0) dX1_checkFilling_9 rfl ?_
    refine r_iconst (v := 5) dX1_checkFilling_10 rfl ?_
    refine r_iload_n dX1_checkFilling_11 rfl ?_
    refine r_iload_n dX1_checkFilling_12 rfl ?_
    refine r_isub dX1_checkFilling_13 ?_
    refine r_invSN dX1_checkFilling_14 (sp_X0_refuse0) rfl mo_X0_refuse (lkT q1051 rfl) (lkA q1052) rfl (lkA q64) mp_X0_refuse (Nat.le_of_ble_eq_true rfl) (Nat.le_of_ble_eq_true rfl) (Nat.le_of_ble_eq_true rfl) (kr_e ?_) kx_e
    first | refine r_aload_n dX1_checkFilling_17 rfl ?_ | refine r_aload_nq dX1_checkFilling_17 rfl ?_ | refine r_aload_nN dX1_checkFilling_17 rfl ?_
    refine r_iload_n dX1_checkFilling_18 rfl ?_
    refine r_invV dX1_checkFilling_19 (sp_X4_room ha hr hj hj3) rfl mo_X4_room (Or.inl ha) rfl (lkA q1200) (lkA q1201) (lkA q1202) rfl (lkA q91) mp_X4_room (Nat.le_of_ble_eq_true rfl) (Nat.le_of_ble_eq_true rfl) (Nat.le_of_ble_eq_true rfl) (kr_e ?_) kx_e
    refine r_iload_n dX1_checkFilling_22 rfl ?_
    refine r_icmp_ge 30 dX1_checkFilling_23 rfl (fun c23 => ?_) (fun c23 => ?_)
    · refine r_iconst (v := 0) dX1_checkFilling_30 rfl ?_
      refine r_bipush (v := 6) dX1_checkFilling_31 rfl ?_
      first | refine r_aload_n dX1_checkFilling_33 rfl ?_ | refine r_aload_nq dX1_checkFilling_33 rfl ?_ | refine r_aload_nN dX1_checkFilling_33 rfl ?_
      refine r_iload_n dX1_checkFilling_34 rfl ?_
      refine r_invV dX1_checkFilling_35 (sp_X4_room ha hr hj hj3) rfl mo_X4_room (Or.inl ha) rfl (lkA q1200) (lkA q1201) (lkA q1202) rfl (lkA q91) mp_X4_room (Nat.le_of_ble_eq_true rfl) (Nat.le_of_ble_eq_true rfl) (Nat.le_of_ble_eq_true rfl) (kr_e ?_) kx_e
      refine r_invSN dX1_checkFilling_38 (sp_X0_refuse0) rfl mo_X0_refuse (lkT q1051 rfl) (lkA q1052) rfl (lkA q64) mp_X0_refuse (Nat.le_of_ble_eq_true rfl) (Nat.le_of_ble_eq_true rfl) (Nat.le_of_ble_eq_true rfl) (kr_e ?_) kx_e
      exact r_return dX1_checkFilling_41 rfl ⟨Int32.not_lt.mpr c2, Int32.not_lt.mpr c23, rfl, rfl⟩
    · refine r_iconst (v := 1) dX1_checkFilling_26 rfl ?_
      refine r_goto 31 dX1_checkFilling_27 rfl ?_
      refine r_bipush (v := 6) dX1_checkFilling_31 rfl ?_
      first | refine r_aload_n dX1_checkFilling_33 rfl ?_ | refine r_aload_nq dX1_checkFilling_33 rfl ?_ | refine r_aload_nN dX1_checkFilling_33 rfl ?_
      refine r_iload_n dX1_checkFilling_34 rfl ?_
      refine r_invV dX1_checkFilling_35 (sp_X4_room ha hr hj hj3) rfl mo_X4_room (Or.inl ha) rfl (lkA q1200) (lkA q1201) (lkA q1202) rfl (lkA q91) mp_X4_room (Nat.le_of_ble_eq_true rfl) (Nat.le_of_ble_eq_true rfl) (Nat.le_of_ble_eq_true rfl) (kr_e ?_) kx_e
      refine r_invSN dX1_checkFilling_38 (sp_X0_refuse1 hK) rfl mo_X0_refuse (lkT q1051 rfl) (lkA q1052) rfl (lkA q64) mp_X0_refuse (Nat.le_of_ble_eq_true rfl) (Nat.le_of_ble_eq_true rfl) (Nat.le_of_ble_eq_true rfl) (fun v9 h9 p9 => ?_) (fun q9 h9 ci9 fs9 p9 hq9 => (r_out hq9 rfl ⟨p9.1, Or.inr ⟨Int32.not_lt.mpr c2, Int32.not_le.mp c23, p9.2⟩⟩))
      exact p9.elim
  · refine r_iconst (v := 1) dX1_checkFilling_5 rfl ?_
    refine r_goto 10 dX1_checkFilling_6 rfl ?_
    refine r_iconst (v := 5) dX1_checkFilling_10 rfl ?_
    refine r_iload_n dX1_checkFilling_11 rfl ?_
    refine r_iload_n dX1_checkFilling_12 rfl ?_
    refine r_isub dX1_checkFilling_13 ?_
    refine r_invSN dX1_checkFilling_14 (sp_X0_refuse1 hK) rfl mo_X0_refuse (lkT q1051 rfl) (lkA q1052) rfl (lkA q64) mp_X0_refuse (Nat.le_of_ble_eq_true rfl) (Nat.le_of_ble_eq_true rfl) (Nat.le_of_ble_eq_true rfl) (fun v9 h9 p9 => ?_) (fun q9 h9 ci9 fs9 p9 hq9 => (r_out hq9 rfl ⟨p9.1, Or.inl ⟨Int32.not_le.mp c2, p9.2⟩⟩))
    exact p9.elim

set_option maxHeartbeats 4000000 in
set_option maxRecDepth 100000 in
theorem sp_X1_checkEmptying {G : GG} {h : HP} (hK : KS G) {a : Nat} {c p w s b g : Int32} {r : Nat} {x n t : Int32} {f : Nat → Int32} {j : Nat} (ha : h a = some (bO 4 [.int c, .int p, .int w, .ref r, .int s, .int b, .int g])) (hr : h r = some (bI 0 3 f)) (hj : x.toInt = (j : Int)) (hj3 : j < 3) : Ct G 6 18 M_X1_checkEmptying [.ref a, .int x, .int n, .int t] h (t2Q (f j < n) (bRef 7 (f j)) (200 < t + n) (bRef 16 t) h) := by
  refine ct_intro my_X1_checkEmptying (Nat.le_of_ble_eq_true rfl) ?_
  first | refine r_aload_n dX1_checkEmptying_0 rfl ?_ | refine r_aload_nq dX1_checkEmptying_0 rfl ?_ | refine r_aload_nN dX1_checkEmptying_0 rfl ?_
  refine r_getfieldN 4 3 dX1_checkEmptying_1 rfl (Nat.le_of_ble_eq_true rfl) (lkT q880 rfl) (Or.inl rfl) (by first | exact Or.inl (by assumption) | assumption | (refine Or.inl ?_; repeat' first | assumption | exact hu_s | refine hu_o (by assumption) ?_ | refine (hu_n (by first | assumption | exact Ne.symm (by assumption) | exact ne_o (by assumption) (by assumption) | exact Ne.symm (ne_o (by assumption) (by assumption)))).trans ?_)) (by rfl) ?_
  refine r_iload_n dX1_checkEmptying_4 rfl ?_
  refine r_iaload (j) dX1_checkEmptying_5 (by first | exact Or.inl (by assumption) | assumption | (refine Or.inl ?_; repeat' first | assumption | exact hu_s | refine hu_o (by assumption) ?_ | refine (hu_n (by first | assumption | exact Ne.symm (by assumption) | exact ne_o (by assumption) (by assumption) | exact Ne.symm (ne_o (by assumption) (by assumption)))).trans ?_)) hj hj3 rfl ?_
  refine r_iload_n dX1_checkEmptying_6 rfl ?_
  refine r_icmp_ge 14 dX1_checkEmptying_7 rfl (fun c7 => ?_) (fun c7 => ?_)
  · refine r_iconst (v := 0) dX1_checkEmptying_14 rfl ?_
    refine r_bipush (v := 7) dX1_checkEmptying_15 rfl ?_
    first | refine r_aload_n dX1_checkEmptying_17 rfl ?_ | refine r_aload_nq dX1_checkEmptying_17 rfl ?_ | refine r_aload_nN dX1_checkEmptying_17 rfl ?_
    refine r_getfieldN 4 3 dX1_checkEmptying_18 rfl (Nat.le_of_ble_eq_true rfl) (lkT q880 rfl) (Or.inl rfl) (by first | exact Or.inl (by assumption) | assumption | (refine Or.inl ?_; repeat' first | assumption | exact hu_s | refine hu_o (by assumption) ?_ | refine (hu_n (by first | assumption | exact Ne.symm (by assumption) | exact ne_o (by assumption) (by assumption) | exact Ne.symm (ne_o (by assumption) (by assumption)))).trans ?_)) (by rfl) ?_
    refine r_iload_n dX1_checkEmptying_21 rfl ?_
    refine r_iaload (j) dX1_checkEmptying_22 (by first | exact Or.inl (by assumption) | assumption | (refine Or.inl ?_; repeat' first | assumption | exact hu_s | refine hu_o (by assumption) ?_ | refine (hu_n (by first | assumption | exact Ne.symm (by assumption) | exact ne_o (by assumption) (by assumption) | exact Ne.symm (ne_o (by assumption) (by assumption)))).trans ?_)) hj hj3 rfl ?_
    refine r_invSN dX1_checkEmptying_23 (sp_X0_refuse0) rfl mo_X0_refuse (lkT q1051 rfl) (lkA q1052) rfl (lkA q64) mp_X0_refuse (Nat.le_of_ble_eq_true rfl) (Nat.le_of_ble_eq_true rfl) (Nat.le_of_ble_eq_true rfl) (kr_e ?_) kx_e
    refine r_iload_n dX1_checkEmptying_26 rfl ?_
    refine r_iload_n dX1_checkEmptying_27 rfl ?_
    refine r_iadd dX1_checkEmptying_28 ?_
    refine r_sipush (v := 200) dX1_checkEmptying_29 rfl ?_
    refine r_icmp_le 39 dX1_checkEmptying_32 rfl (fun c32 => ?_) (fun c32 => ?_)
    · refine r_iconst (v := 0) dX1_checkEmptying_39 rfl ?_
      refine r_bipush (v := 16) dX1_checkEmptying_40 rfl ?_
      refine r_iload_n dX1_checkEmptying_42 rfl ?_
      refine r_invSN dX1_checkEmptying_43 (sp_X0_refuse0) rfl mo_X0_refuse (lkT q1051 rfl) (lkA q1052) rfl (lkA q64) mp_X0_refuse (Nat.le_of_ble_eq_true rfl) (Nat.le_of_ble_eq_true rfl) (Nat.le_of_ble_eq_true rfl) (kr_e ?_) kx_e
      exact r_return dX1_checkEmptying_46 rfl ⟨Int32.not_lt.mpr c7, Int32.not_lt.mpr c32, rfl, rfl⟩
    · refine r_iconst (v := 1) dX1_checkEmptying_35 rfl ?_
      refine r_goto 40 dX1_checkEmptying_36 rfl ?_
      refine r_bipush (v := 16) dX1_checkEmptying_40 rfl ?_
      refine r_iload_n dX1_checkEmptying_42 rfl ?_
      refine r_invSN dX1_checkEmptying_43 (sp_X0_refuse1 hK) rfl mo_X0_refuse (lkT q1051 rfl) (lkA q1052) rfl (lkA q64) mp_X0_refuse (Nat.le_of_ble_eq_true rfl) (Nat.le_of_ble_eq_true rfl) (Nat.le_of_ble_eq_true rfl) (fun v9 h9 p9 => ?_) (fun q9 h9 ci9 fs9 p9 hq9 => (r_out hq9 rfl ⟨p9.1, Or.inr ⟨Int32.not_lt.mpr c7, Int32.not_le.mp c32, p9.2⟩⟩))
      exact p9.elim
  · refine r_iconst (v := 1) dX1_checkEmptying_10 rfl ?_
    refine r_goto 15 dX1_checkEmptying_11 rfl ?_
    refine r_bipush (v := 7) dX1_checkEmptying_15 rfl ?_
    first | refine r_aload_n dX1_checkEmptying_17 rfl ?_ | refine r_aload_nq dX1_checkEmptying_17 rfl ?_ | refine r_aload_nN dX1_checkEmptying_17 rfl ?_
    refine r_getfieldN 4 3 dX1_checkEmptying_18 rfl (Nat.le_of_ble_eq_true rfl) (lkT q880 rfl) (Or.inl rfl) (by first | exact Or.inl (by assumption) | assumption | (refine Or.inl ?_; repeat' first | assumption | exact hu_s | refine hu_o (by assumption) ?_ | refine (hu_n (by first | assumption | exact Ne.symm (by assumption) | exact ne_o (by assumption) (by assumption) | exact Ne.symm (ne_o (by assumption) (by assumption)))).trans ?_)) (by rfl) ?_
    refine r_iload_n dX1_checkEmptying_21 rfl ?_
    refine r_iaload (j) dX1_checkEmptying_22 (by first | exact Or.inl (by assumption) | assumption | (refine Or.inl ?_; repeat' first | assumption | exact hu_s | refine hu_o (by assumption) ?_ | refine (hu_n (by first | assumption | exact Ne.symm (by assumption) | exact ne_o (by assumption) (by assumption) | exact Ne.symm (ne_o (by assumption) (by assumption)))).trans ?_)) hj hj3 rfl ?_
    refine r_invSN dX1_checkEmptying_23 (sp_X0_refuse1 hK) rfl mo_X0_refuse (lkT q1051 rfl) (lkA q1052) rfl (lkA q64) mp_X0_refuse (Nat.le_of_ble_eq_true rfl) (Nat.le_of_ble_eq_true rfl) (Nat.le_of_ble_eq_true rfl) (fun v9 h9 p9 => ?_) (fun q9 h9 ci9 fs9 p9 hq9 => (r_out hq9 rfl ⟨p9.1, Or.inl ⟨Int32.not_le.mp c7, p9.2⟩⟩))
    exact p9.elim

theorem room_lt {f y : Int32} (hf : 0 ≤ f.toInt ∧ f.toInt ≤ 12) (hy : -12 ≤ y.toInt ∧ y.toInt ≤ 12) : 12 - f < y ↔ 12 < f + y := by
  have h12 : (12 : Int32).toInt = 12 := rfl
  rw [Int32.lt_iff_toInt_lt, Int32.lt_iff_toInt_lt, tI_add, tI_sub, if_pos (by omega), if_pos (by omega)]
  omega
set_option maxHeartbeats 4000000 in
set_option maxRecDepth 100000 in
theorem sp_X1_takes {G : GG} {h : HP} {ad : Nat → Nat} {w : Nat → Int32} (hi : cI ad w) (hK : KS G) {x y z : Int32} (hS : isS w x = true ∧ x.toInt = (tn x : Int) ∧ tn x < 4 ∧ (tn x : Int) < (w 2).toInt) (hB : isB y = true ∧ y.toInt = (tn y : Int) ∧ tn y < 3) (hY : isTk z = true) (hz : -12 ≤ z.toInt ∧ z.toInt ≤ 12) (hbx : 0 ≤ (w (17 + 9 * tn x + (3 + tn y))).toInt ∧ (w (17 + 9 * tn x + (3 + tn y))).toInt ≤ 12) : Ct G 7 27 M_X1_takes [.ref (ad 0), .int x, .int y, .int z] (cH ad w h) (oQ ad w h (oTakes w x y z)) := by
  refine ct_intro my_X1_takes (Nat.le_of_ble_eq_true rfl) ?_
  have hs : tn x < tn (w 2) := by have := hS.2.2.2; unfold tn at *; omega
  first | refine r_aload_n dX1_takes_0 rfl ?_ | refine r_aload_nq dX1_takes_0 rfl ?_ | refine r_aload_nN dX1_takes_0 rfl ?_
  refine r_getfield 1 1 dX1_takes_1 rfl (Nat.le_of_ble_eq_true rfl) (lkA q298) (Or.inl rfl) (Or.inl (by first | exact c_0 hi | exact c_1 hi | exact c_2 hi | exact c_3 hi | exact c_4 hi | exact c_5 hi | exact c_6 hi)) (by rfl) ?_
  refine r_iload_n dX1_takes_4 rfl ?_
  refine r_invV dX1_takes_5 (sp_J2_get (c_3 hi) (c_4 hi) hS.2.1 hS.2.2.2 hS.2.2.1 (fSs_at hs)) rfl mo_J2_get (Or.inl (c_3 hi)) rfl (lkA q440) (lkA q441) (lkA q442) rfl (lkA q68) mp_J2_get (Nat.le_of_ble_eq_true rfl) (Nat.le_of_ble_eq_true rfl) (Nat.le_of_ble_eq_true rfl) (kr_e ?_) kx_e
  refine r_castS dX1_takes_8 (Or.inl (c_s hi (tn x) hS.2.2.1 hs)) rfl (lkA q862) ?_
  first | refine r_astore dX1_takes_11 (Nat.le_of_ble_eq_true rfl) ?_ | refine r_astoreq dX1_takes_11 (Nat.le_of_ble_eq_true rfl) ?_ | refine r_astoreN dX1_takes_11 (Nat.le_of_ble_eq_true rfl) ?_
  first | refine r_aload dX1_takes_13 rfl ?_ | refine r_aloadq dX1_takes_13 rfl ?_ | refine r_aloadN dX1_takes_13 rfl ?_
  refine r_invS dX1_takes_15 (sp_X1_checkAtDepot hK (c_s hi (tn x) hS.2.2.1 hs)) rfl mo_X1_checkAtDepot (lkA q1173) (lkA q1174) (lkA q65) mp_X1_checkAtDepot (Nat.le_of_ble_eq_true rfl) (Nat.le_of_ble_eq_true rfl) (Nat.le_of_ble_eq_true rfl) (fun v9 h9 p9 => ?_) (fun q9 h9 ci9 fs9 p9 hq9 => (by obtain ⟨e1, e2, rfl⟩ := p9; refine r_out hq9 rfl ?_; rw [show oTakes w x y z = oR 4 (w (17 + 9 * tn x + 1)) by unfold oTakes; rw [if_pos ⟨hS.1, hB.1⟩, if_pos hY]; unfold gTakeR gSl; rw [if_neg e1]]; exact oQ_ref Ext.rf e2))
  obtain ⟨hp0, rfl, rfl⟩ := p9
  have hp0 := Classical.not_not.mp hp0
  refine r_iload_n dX1_takes_18 rfl ?_
  refine r_if_le 38 dX1_takes_19 rfl (fun c19 => ?_) (fun c19 => ?_)
  · first | refine r_aload dX1_takes_38 rfl ?_ | refine r_aloadq dX1_takes_38 rfl ?_ | refine r_aloadN dX1_takes_38 rfl ?_
    refine r_iload_n dX1_takes_40 rfl ?_
    refine r_iload_n dX1_takes_41 rfl ?_
    refine r_ineg dX1_takes_42 ?_
    first | refine r_aload_n dX1_takes_43 rfl ?_ | refine r_aload_nq dX1_takes_43 rfl ?_ | refine r_aload_nN dX1_takes_43 rfl ?_
    refine r_getfield 1 3 dX1_takes_44 rfl (Nat.le_of_ble_eq_true rfl) (lkA q302) (Or.inl rfl) (Or.inl (by first | exact c_0 hi | exact c_1 hi | exact c_2 hi | exact c_3 hi | exact c_4 hi | exact c_5 hi | exact c_6 hi)) (by rfl) ?_
    refine r_iload_n dX1_takes_47 rfl ?_
    refine r_iaload (tn y) dX1_takes_48 (Or.inl (by first | exact c_0 hi | exact c_1 hi | exact c_2 hi | exact c_3 hi | exact c_4 hi | exact c_5 hi | exact c_6 hi)) hB.2.1 hB.2.2 (fDp_at hB.2.2) ?_
    refine r_invS dX1_takes_49 (sp_X1_checkEmptying hK (c_s hi (tn x) hS.2.2.1 hs) (c_r hi (tn x) hS.2.2.1 hs) hB.2.1 hB.2.2) rfl mo_X1_checkEmptying (lkA q1204) (lkA q1205) (lkA q65) mp_X1_checkEmptying (Nat.le_of_ble_eq_true rfl) (Nat.le_of_ble_eq_true rfl) (Nat.le_of_ble_eq_true rfl) (fun v9 h9 p9 => ?_) (fun q9 h9 ci9 fs9 p9 hq9 => (p9.2.elim (fun e => by obtain ⟨e1, rfl⟩ := e; refine r_out hq9 rfl ?_; rw [show oTakes w x y z = oR 7 (fBr w (tn x) (tn y)) by unfold oTakes; rw [if_pos ⟨hS.1, hB.1⟩, if_pos hY]; unfold gTakeR gSl; rw [if_pos hp0, if_neg (Int32.not_lt.mpr c19), if_pos (by rw [← fBr_at (w := w) (s := tn x) hB.2.2]; exact e1), fBr_at hB.2.2]]; exact oQ_ref Ext.rf p9.1) (fun e => by obtain ⟨e0, e1, rfl⟩ := e; refine r_out hq9 rfl ?_; rw [show oTakes w x y z = oR 16 (w (14 + tn y)) by unfold oTakes; rw [if_pos ⟨hS.1, hB.1⟩, if_pos hY]; unfold gTakeR gSl; rw [if_pos hp0, if_neg (Int32.not_lt.mpr c19), if_neg (by rw [← fBr_at (w := w) (s := tn x) hB.2.2]; exact e0), if_pos (by rw [Int32.sub_eq_add_neg]; exact e1)]]; exact oQ_ref Ext.rf p9.1)))
    obtain ⟨g1, g2, rfl, rfl⟩ := p9
    rw [fBr_at hB.2.2] at g1
    rw [← Int32.sub_eq_add_neg] at g2
    first | refine r_aload_n dX1_takes_52 rfl ?_ | refine r_aload_nq dX1_takes_52 rfl ?_ | refine r_aload_nN dX1_takes_52 rfl ?_
    refine r_getfield 1 3 dX1_takes_53 rfl (Nat.le_of_ble_eq_true rfl) (lkA q302) (Or.inl rfl) (Or.inl (c_0 hi)) (by rfl) ?_
    refine r_iload_n dX1_takes_56 rfl ?_
    refine r_dup2 dX1_takes_57 rfl rfl ?_
    refine r_iaload (tn y) dX1_takes_58 (Or.inl (by first | exact c_0 hi | exact c_1 hi | exact c_2 hi | exact c_3 hi | exact c_4 hi | exact c_5 hi | exact c_6 hi)) hB.2.1 hB.2.2 (fDp_at hB.2.2) ?_
    refine r_iload_n dX1_takes_59 rfl ?_
    refine r_isub dX1_takes_60 ?_
    refine r_iastore (tn y) dX1_takes_61 (c_6 hi) hB.2.1 hB.2.2 ?_
    rw [cu_d hi (tn y) hB.2.2]
    have i2 : cI ad (upd w (14 + tn y) (w (14 + tn y) - z)) := cI_u hi (by omega) (by omega)
    have s2 : tn x < tn ((upd w (14 + tn y) (w (14 + tn y) - z)) 2) := by rw [upd_n (by omega)]; exact hs
    have nb : (upd w (14 + tn y) (w (14 + tn y) - z)) (17 + 9 * tn x + (3 + tn y)) = w (17 + 9 * tn x + (3 + tn y)) := upd_n (by omega)
    first | refine r_aload dX1_takes_62 rfl ?_ | refine r_aloadq dX1_takes_62 rfl ?_ | refine r_aloadN dX1_takes_62 rfl ?_
    refine r_getfieldN 4 3 dX1_takes_64 rfl (Nat.le_of_ble_eq_true rfl) (lkT q880 rfl) (Or.inl rfl) (Or.inl (c_s i2 (tn x) hS.2.2.1 s2)) (by rfl) ?_
    refine r_iload_n dX1_takes_67 rfl ?_
    refine r_dup2 dX1_takes_68 rfl rfl ?_
    refine r_iaload (tn y) dX1_takes_69 (Or.inl (c_r i2 (tn x) hS.2.2.1 s2)) hB.2.1 hB.2.2 ((fBr_at hB.2.2).trans nb) ?_
    refine r_iload_n dX1_takes_70 rfl ?_
    refine r_iadd dX1_takes_71 ?_
    refine r_iastore (tn y) dX1_takes_72 (c_r i2 (tn x) hS.2.2.1 s2) hB.2.1 hB.2.2 ?_
    rw [cu_r i2 (tn x) (tn y) hS.2.2.1 s2 hB.2.2]
    have i3 : cI ad (gTake w (tn x) (tn y) z) := cI_u i2 (by omega) (by omega)
    have s3 : tn x < tn (gTake w (tn x) (tn y) z 2) := by unfold gTake; rw [upd_n (by omega)]; exact s2
    first | refine r_aload dX1_takes_73 rfl ?_ | refine r_aloadq dX1_takes_73 rfl ?_ | refine r_aloadN dX1_takes_73 rfl ?_
    refine r_getfieldN 4 3 dX1_takes_75 rfl (Nat.le_of_ble_eq_true rfl) (lkT q880 rfl) (Or.inl rfl) (Or.inl (c_s i3 (tn x) hS.2.2.1 s3)) (by rfl) ?_
    refine r_iload_n dX1_takes_78 rfl ?_
    refine r_iaload (tn y) dX1_takes_79 (Or.inl (c_r i3 (tn x) hS.2.2.1 s3)) hB.2.1 hB.2.2 ((fBr_at hB.2.2).trans upd_s) ?_
    exact r_ireturn dX1_takes_80 rfl (by first | rfl | exact bi_nar) (by rw [show oTakes w x y z = oK (w (17 + 9 * tn x + (3 + tn y)) + z) (gTake w (tn x) (tn y) z) by unfold oTakes; rw [if_pos ⟨hS.1, hB.1⟩, if_pos hY]; unfold gTakeR gSl; rw [if_pos hp0, if_neg (Int32.not_lt.mpr c19), if_neg g1, if_neg g2]]; refine ⟨rfl, cP_same hi ?_ ?_ Ext.rf⟩ <;> dsimp only <;> unfold gTake <;> (repeat rw [upd_n (by omega)]))
  · first | refine r_aload dX1_takes_22 rfl ?_ | refine r_aloadq dX1_takes_22 rfl ?_ | refine r_aloadN dX1_takes_22 rfl ?_
    refine r_iload_n dX1_takes_24 rfl ?_
    refine r_iload_n dX1_takes_25 rfl ?_
    first | refine r_aload_n dX1_takes_26 rfl ?_ | refine r_aload_nq dX1_takes_26 rfl ?_ | refine r_aload_nN dX1_takes_26 rfl ?_
    refine r_getfield 1 3 dX1_takes_27 rfl (Nat.le_of_ble_eq_true rfl) (lkA q302) (Or.inl rfl) (Or.inl (by first | exact c_0 hi | exact c_1 hi | exact c_2 hi | exact c_3 hi | exact c_4 hi | exact c_5 hi | exact c_6 hi)) (by rfl) ?_
    refine r_iload_n dX1_takes_30 rfl ?_
    refine r_iaload (tn y) dX1_takes_31 (Or.inl (by first | exact c_0 hi | exact c_1 hi | exact c_2 hi | exact c_3 hi | exact c_4 hi | exact c_5 hi | exact c_6 hi)) hB.2.1 hB.2.2 (fDp_at hB.2.2) ?_
    refine r_invS dX1_takes_32 (sp_X1_checkFilling hK (c_s hi (tn x) hS.2.2.1 hs) (c_r hi (tn x) hS.2.2.1 hs) hB.2.1 hB.2.2) rfl mo_X1_checkFilling (lkA q1197) (lkA q1198) (lkA q65) mp_X1_checkFilling (Nat.le_of_ble_eq_true rfl) (Nat.le_of_ble_eq_true rfl) (Nat.le_of_ble_eq_true rfl) (fun v9 h9 p9 => ?_) (fun q9 h9 ci9 fs9 p9 hq9 => (p9.2.elim (fun e => by obtain ⟨e1, rfl⟩ := e; refine r_out hq9 rfl ?_; rw [show oTakes w x y z = oR 5 (z - w (14 + tn y)) by unfold oTakes; rw [if_pos ⟨hS.1, hB.1⟩, if_pos hY]; unfold gTakeR gSl; rw [if_pos hp0, if_pos (Int32.not_le.mp c19), if_pos e1]]; exact oQ_ref Ext.rf p9.1) (fun e => by obtain ⟨e0, e1, rfl⟩ := e; refine r_out hq9 rfl ?_; rw [show oTakes w x y z = oR 6 (12 - fBr w (tn x) (tn y)) by unfold oTakes; rw [if_pos ⟨hS.1, hB.1⟩, if_pos hY]; unfold gTakeR gSl; rw [if_pos hp0, if_pos (Int32.not_le.mp c19), if_neg e0, if_pos ((room_lt hbx hz).mp (by rw [← fBr_at (w := w) (s := tn x) hB.2.2]; exact e1)), fBr_at hB.2.2]]; exact oQ_ref Ext.rf p9.1)))
    obtain ⟨g1, g2, rfl, rfl⟩ := p9
    have g2 : ¬ 12 < w (17 + 9 * tn x + (3 + tn y)) + z := fun e => g2 (by rw [fBr_at hB.2.2]; exact (room_lt hbx hz).mpr e)
    refine r_goto 52 dX1_takes_35 rfl ?_
    first | refine r_aload_n dX1_takes_52 rfl ?_ | refine r_aload_nq dX1_takes_52 rfl ?_ | refine r_aload_nN dX1_takes_52 rfl ?_
    refine r_getfield 1 3 dX1_takes_53 rfl (Nat.le_of_ble_eq_true rfl) (lkA q302) (Or.inl rfl) (Or.inl (c_0 hi)) (by rfl) ?_
    refine r_iload_n dX1_takes_56 rfl ?_
    refine r_dup2 dX1_takes_57 rfl rfl ?_
    refine r_iaload (tn y) dX1_takes_58 (Or.inl (by first | exact c_0 hi | exact c_1 hi | exact c_2 hi | exact c_3 hi | exact c_4 hi | exact c_5 hi | exact c_6 hi)) hB.2.1 hB.2.2 (fDp_at hB.2.2) ?_
    refine r_iload_n dX1_takes_59 rfl ?_
    refine r_isub dX1_takes_60 ?_
    refine r_iastore (tn y) dX1_takes_61 (c_6 hi) hB.2.1 hB.2.2 ?_
    rw [cu_d hi (tn y) hB.2.2]
    have i2 : cI ad (upd w (14 + tn y) (w (14 + tn y) - z)) := cI_u hi (by omega) (by omega)
    have s2 : tn x < tn ((upd w (14 + tn y) (w (14 + tn y) - z)) 2) := by rw [upd_n (by omega)]; exact hs
    have nb : (upd w (14 + tn y) (w (14 + tn y) - z)) (17 + 9 * tn x + (3 + tn y)) = w (17 + 9 * tn x + (3 + tn y)) := upd_n (by omega)
    first | refine r_aload dX1_takes_62 rfl ?_ | refine r_aloadq dX1_takes_62 rfl ?_ | refine r_aloadN dX1_takes_62 rfl ?_
    refine r_getfieldN 4 3 dX1_takes_64 rfl (Nat.le_of_ble_eq_true rfl) (lkT q880 rfl) (Or.inl rfl) (Or.inl (c_s i2 (tn x) hS.2.2.1 s2)) (by rfl) ?_
    refine r_iload_n dX1_takes_67 rfl ?_
    refine r_dup2 dX1_takes_68 rfl rfl ?_
    refine r_iaload (tn y) dX1_takes_69 (Or.inl (c_r i2 (tn x) hS.2.2.1 s2)) hB.2.1 hB.2.2 ((fBr_at hB.2.2).trans nb) ?_
    refine r_iload_n dX1_takes_70 rfl ?_
    refine r_iadd dX1_takes_71 ?_
    refine r_iastore (tn y) dX1_takes_72 (c_r i2 (tn x) hS.2.2.1 s2) hB.2.1 hB.2.2 ?_
    rw [cu_r i2 (tn x) (tn y) hS.2.2.1 s2 hB.2.2]
    have i3 : cI ad (gTake w (tn x) (tn y) z) := cI_u i2 (by omega) (by omega)
    have s3 : tn x < tn (gTake w (tn x) (tn y) z 2) := by unfold gTake; rw [upd_n (by omega)]; exact s2
    first | refine r_aload dX1_takes_73 rfl ?_ | refine r_aloadq dX1_takes_73 rfl ?_ | refine r_aloadN dX1_takes_73 rfl ?_
    refine r_getfieldN 4 3 dX1_takes_75 rfl (Nat.le_of_ble_eq_true rfl) (lkT q880 rfl) (Or.inl rfl) (Or.inl (c_s i3 (tn x) hS.2.2.1 s3)) (by rfl) ?_
    refine r_iload_n dX1_takes_78 rfl ?_
    refine r_iaload (tn y) dX1_takes_79 (Or.inl (c_r i3 (tn x) hS.2.2.1 s3)) hB.2.1 hB.2.2 ((fBr_at hB.2.2).trans upd_s) ?_
    exact r_ireturn dX1_takes_80 rfl (by first | rfl | exact bi_nar) (by rw [show oTakes w x y z = oK (w (17 + 9 * tn x + (3 + tn y)) + z) (gTake w (tn x) (tn y) z) by unfold oTakes; rw [if_pos ⟨hS.1, hB.1⟩, if_pos hY]; unfold gTakeR gSl; rw [if_pos hp0, if_pos (Int32.not_le.mp c19), if_neg g1, if_neg g2]]; refine ⟨rfl, cP_same hi ?_ ?_ Ext.rf⟩ <;> dsimp only <;> unfold gTake <;> (repeat rw [upd_n (by omega)]))

