set_option maxRecDepth 100000
theorem nw_1 : nk (.methodLink "BrushSellers$Company" 137 ⟨"BrushSellers$Seller", "isAt", "(I)Z"⟩) := ⟨by decide +kernel, by decide +kernel⟩
theorem nw_2 : nk (.methodLink "BrushSellers$Company" 172 ⟨"BrushSellers$Seller", "houses", "(I)I"⟩) := ⟨by decide +kernel, by decide +kernel⟩
theorem nw_3 : nk (.methodLink "BrushSellers$Seller" 71 ⟨"BrushSellers$Seller", "houses", "(I)I"⟩) := ⟨by decide +kernel, by decide +kernel⟩
theorem nw_4 : nk (.methodLink "BrushSellers" 140 ⟨"BrushSellers$Seller", "isAt", "(I)Z"⟩) := ⟨by decide +kernel, by decide +kernel⟩
theorem nw_5 : nk (.sameMethod "BrushSellers$Seller" "BrushSellers$Placed" "isAt" "(I)Z") := ⟨by decide +kernel, by decide +kernel⟩
theorem nw_6 : nk (.sameMethod "BrushSellers$Seller" "BrushSellers$Placed" "houses" "(I)I") := ⟨by decide +kernel, by decide +kernel⟩
theorem nw_7 : Cond.landsInDefault "BrushSellers$Seller" ⟨"BrushSellers$Seller", "isAt", "(I)Z"⟩ ⟨"BrushSellers$Placed", "isAt", "(I)Z"⟩ ∈ flatC (Jvm.Cond.and given_1 narrow_1) := by decide +kernel
theorem nw_8 : Cond.landsInDefault "BrushSellers$Seller" ⟨"BrushSellers$Seller", "houses", "(I)I"⟩ ⟨"BrushSellers$Placed", "houses", "(I)I"⟩ ∈ flatC (Jvm.Cond.and given_1 narrow_1) := by decide +kernel
set_option maxHeartbeats 4000000 in
set_option maxRecDepth 100000 in
theorem sp_X0_isIn {G : GG} {h : HP} {v lo hh : Int32} : Ct G 0 0 M_X0_isIn [.int v, .int lo, .int hh] h (eQ (some (.int (bi (isn v lo hh)))) h) := by
  refine ct_intro my_X0_isIn (Nat.le_of_ble_eq_true rfl) ?_
  refine r_iload_n dX0_isIn_0 rfl ?_
  refine r_iload_n dX0_isIn_1 rfl ?_
  refine r_icmp_lt 14 dX0_isIn_2 rfl (fun c2 => ?_) (fun c2 => ?_)
  · refine r_iconst (v := 0) dX0_isIn_14 rfl ?_
    exact r_ireturn dX0_isIn_15 rfl (by first | rfl | exact bi_nar) (by refine ⟨?_, rfl⟩; congr 2; first | exact bi_t (isn_t.mpr (by simp only [i32_eq, Int32.lt_iff_toInt_lt, Int32.le_iff_toInt_le, tI_add, tI_sub, tI_mul, tI_neg, Int32.reduceToInt] at *; omega)) | exact bi_f (isn_f.mpr (by simp only [i32_eq, Int32.lt_iff_toInt_lt, Int32.le_iff_toInt_le, tI_add, tI_sub, tI_mul, tI_neg, Int32.reduceToInt] at *; omega)))
  · refine r_iload_n dX0_isIn_5 rfl ?_
    refine r_iload_n dX0_isIn_6 rfl ?_
    refine r_icmp_gt 14 dX0_isIn_7 rfl (fun c7 => ?_) (fun c7 => ?_)
    · refine r_iconst (v := 0) dX0_isIn_14 rfl ?_
      exact r_ireturn dX0_isIn_15 rfl (by first | rfl | exact bi_nar) (by refine ⟨?_, rfl⟩; congr 2; first | exact bi_t (isn_t.mpr (by simp only [i32_eq, Int32.lt_iff_toInt_lt, Int32.le_iff_toInt_le, tI_add, tI_sub, tI_mul, tI_neg, Int32.reduceToInt] at *; omega)) | exact bi_f (isn_f.mpr (by simp only [i32_eq, Int32.lt_iff_toInt_lt, Int32.le_iff_toInt_le, tI_add, tI_sub, tI_mul, tI_neg, Int32.reduceToInt] at *; omega)))
    · refine r_iconst (v := 1) dX0_isIn_10 rfl ?_
      refine r_goto 15 dX0_isIn_11 rfl ?_
      exact r_ireturn dX0_isIn_15 rfl (by first | rfl | exact bi_nar) (by refine ⟨?_, rfl⟩; congr 2; first | exact bi_t (isn_t.mpr (by simp only [i32_eq, Int32.lt_iff_toInt_lt, Int32.le_iff_toInt_le, tI_add, tI_sub, tI_mul, tI_neg, Int32.reduceToInt] at *; omega)) | exact bi_f (isn_f.mpr (by simp only [i32_eq, Int32.lt_iff_toInt_lt, Int32.le_iff_toInt_le, tI_add, tI_sub, tI_mul, tI_neg, Int32.reduceToInt] at *; omega)))

set_option maxHeartbeats 4000000 in
set_option maxRecDepth 100000 in
theorem sp_X0_isHouse {G : GG} {h : HP} {v : Int32} : Ct G 1 0 M_X0_isHouse [.int v] h (eQ (some (.int (bi (isH v)))) h) := by
  refine ct_intro my_X0_isHouse (Nat.le_of_ble_eq_true rfl) ?_
  refine r_iload_n dX0_isHouse_0 rfl ?_
  refine r_iconst (v := 0) dX0_isHouse_1 rfl ?_
  refine r_bipush (v := 19) dX0_isHouse_2 rfl ?_
  refine r_invS dX0_isHouse_4 (sp_X0_isIn ) rfl mo_X0_isIn (lkA q431) (lkA q432) (lkA q64) mp_X0_isIn (Nat.le_of_ble_eq_true rfl) (Nat.le_of_ble_eq_true rfl) (Nat.le_of_ble_eq_true rfl) (kr_e ?_) kx_e
  exact r_ireturn dX0_isHouse_7 rfl (by first | rfl | exact bi_nar) (by first | exact ⟨rfl, rfl⟩ | rfl)

set_option maxHeartbeats 4000000 in
set_option maxRecDepth 100000 in
theorem sp_X0_isBristle {G : GG} {h : HP} {v : Int32} : Ct G 1 0 M_X0_isBristle [.int v] h (eQ (some (.int (bi (isB v)))) h) := by
  refine ct_intro my_X0_isBristle (Nat.le_of_ble_eq_true rfl) ?_
  refine r_iload_n dX0_isBristle_0 rfl ?_
  refine r_iconst (v := 0) dX0_isBristle_1 rfl ?_
  refine r_iconst (v := 2) dX0_isBristle_2 rfl ?_
  refine r_invS dX0_isBristle_3 (sp_X0_isIn ) rfl mo_X0_isIn (lkA q431) (lkA q432) (lkA q64) mp_X0_isIn (Nat.le_of_ble_eq_true rfl) (Nat.le_of_ble_eq_true rfl) (Nat.le_of_ble_eq_true rfl) (kr_e ?_) kx_e
  exact r_ireturn dX0_isBristle_6 rfl (by first | rfl | exact bi_nar) (by first | exact ⟨rfl, rfl⟩ | rfl)

set_option maxHeartbeats 4000000 in
set_option maxRecDepth 100000 in
theorem sp_X0_isPrice {G : GG} {h : HP} {v : Int32} : Ct G 1 0 M_X0_isPrice [.int v] h (eQ (some (.int (bi (isP v)))) h) := by
  refine ct_intro my_X0_isPrice (Nat.le_of_ble_eq_true rfl) ?_
  refine r_iload_n dX0_isPrice_0 rfl ?_
  refine r_iconst (v := 1) dX0_isPrice_1 rfl ?_
  refine r_bipush (v := 20) dX0_isPrice_2 rfl ?_
  refine r_invS dX0_isPrice_4 (sp_X0_isIn ) rfl mo_X0_isIn (lkA q431) (lkA q432) (lkA q64) mp_X0_isIn (Nat.le_of_ble_eq_true rfl) (Nat.le_of_ble_eq_true rfl) (Nat.le_of_ble_eq_true rfl) (kr_e ?_) kx_e
  exact r_ireturn dX0_isPrice_7 rfl (by first | rfl | exact bi_nar) (by first | exact ⟨rfl, rfl⟩ | rfl)

set_option maxHeartbeats 4000000 in
set_option maxRecDepth 100000 in
theorem sp_X0_areTaken {G : GG} {h : HP} {v : Int32} : Ct G 1 0 M_X0_areTaken [.int v] h (eQ (some (.int (bi (isTk v)))) h) := by
  refine ct_intro my_X0_areTaken (Nat.le_of_ble_eq_true rfl) ?_
  refine r_iload_n dX0_areTaken_0 rfl ?_
  refine r_if_eq 19 dX0_areTaken_1 rfl (fun c1 => ?_) (fun c1 => ?_)
  · refine r_iconst (v := 0) dX0_areTaken_19 rfl ?_
    exact r_ireturn dX0_areTaken_20 rfl (by first | rfl | exact bi_nar) (by rw [show isTk v = false by rw [isTk, decide_eq_true c1]; rfl]; exact ⟨rfl, rfl⟩)
  · refine r_iload_n dX0_areTaken_4 rfl ?_
    refine r_bipush (v := (-12)) dX0_areTaken_5 rfl ?_
    refine r_bipush (v := 12) dX0_areTaken_7 rfl ?_
    refine r_invS dX0_areTaken_9 (sp_X0_isIn ) rfl mo_X0_isIn (lkA q431) (lkA q432) (lkA q64) mp_X0_isIn (Nat.le_of_ble_eq_true rfl) (Nat.le_of_ble_eq_true rfl) (Nat.le_of_ble_eq_true rfl) (kr_e ?_) kx_e
    refine r_if_eq 19 dX0_areTaken_12 rfl (fun c12 => ?_) (fun c12 => ?_)
    · refine r_iconst (v := 0) dX0_areTaken_19 rfl ?_
      exact r_ireturn dX0_areTaken_20 rfl (by first | rfl | exact bi_nar) (by rw [show isTk v = false by rw [isTk, bi_0.mp c12, Bool.and_false]]; exact ⟨rfl, rfl⟩)
    · refine r_iconst (v := 1) dX0_areTaken_15 rfl ?_
      refine r_goto 20 dX0_areTaken_16 rfl ?_
      exact r_ireturn dX0_areTaken_20 rfl (by first | rfl | exact bi_nar) (by rw [show isTk v = true by rw [isTk, bi_n0.mp c12, decide_eq_false c1]; rfl]; exact ⟨rfl, rfl⟩)

abbrev bRef (r d : Int32) : Bd := bO 6 [.null, .null, .null, .null, .null, .int 0, .int r, .int d]
abbrev bWro (a : Int32) : Bd := bO 7 [.null, .null, .null, .null, .null, .int 0, .int a]
/-- one exception, new -/
def thQ (b : Bd) (h : HP) : Oc → HP → Prop := fun o h' => match o with
  | .inl _ => False
  | .inr q => h q = none ∧ h' = hu h q b
/-- thrown if P -/
def tfQ (P : Prop) (b : Bd) (h : HP) : Oc → HP → Prop := fun o h' => match o with
  | .inl v => ¬ P ∧ v = none ∧ h' = h
  | .inr q => P ∧ h q = none ∧ h' = hu h q b
set_option maxHeartbeats 4000000 in
set_option maxRecDepth 100000 in
theorem sp_J17_initX6 {G : GG} {h : HP} (hK : KS G) {q : Nat} {r e : Int32} (hq : h q = some (bO 6 [.null, .null, .null, .null, .null, .int 0, .int r, .int e]))  : Ct G 2 0 M_J17_init_3 [.ref q, .null, .null, .int 0, .int 0] h (eQ none h) := by
  refine ct_intro my_J17_init_3 (Nat.le_of_ble_eq_true rfl) ?_
  obtain ⟨x1, k1⟩ := hK.2.2.2.1
  obtain ⟨x2, k2⟩ := hK.2.2.2.2
  first | refine r_aload_n dJ17_init_3_0 rfl ?_ | refine r_aload_nq dJ17_init_3_0 rfl ?_ | refine r_aload_nN dJ17_init_3_0 rfl ?_
  refine r_objinit (w1 := .tt) dJ17_init_3_1 (lkA q608) (lkA q112) (lkA q113) (Nat.le_of_ble_eq_true rfl) (Nat.le_of_ble_eq_true rfl) ?_
  first | refine r_aload_n dJ17_init_3_4 rfl ?_ | refine r_aload_nq dJ17_init_3_4 rfl ?_ | refine r_aload_nN dJ17_init_3_4 rfl ?_
  first | refine r_aload_n dJ17_init_3_5 rfl ?_ | refine r_aload_nq dJ17_init_3_5 rfl ?_ | refine r_aload_nN dJ17_init_3_5 rfl ?_
  refine r_put 6 0 dJ17_init_3_6 rfl (Nat.le_of_ble_eq_true rfl) (lkA q828) (Or.inl rfl) rfl (by repeat' first | assumption | exact hu_s | refine hu_o (by assumption) ?_ | refine (hu_n (by first | assumption | exact Ne.symm (by assumption) | exact ne_o (by assumption) (by assumption) | exact Ne.symm (ne_o (by assumption) (by assumption)))).trans ?_) (by dsimp only [List.set]) (Nat.le_of_ble_eq_true rfl) rfl rfl (by first | exact hu_hu | exact rfl) ?_
  first | refine r_aload_n dJ17_init_3_9 rfl ?_ | refine r_aload_nq dJ17_init_3_9 rfl ?_ | refine r_aload_nN dJ17_init_3_9 rfl ?_
  refine r_getstatic (C := "java/lang/Throwable") dJ17_init_3_10 (lkA q609) (Or.inl rfl) k1 ?_
  refine r_put 6 1 dJ17_init_3_13 rfl (Nat.le_of_ble_eq_true rfl) (lkA q829) (Or.inl rfl) rfl (by repeat' first | assumption | exact hu_s | refine hu_o (by assumption) ?_ | refine (hu_n (by first | assumption | exact Ne.symm (by assumption) | exact ne_o (by assumption) (by assumption) | exact Ne.symm (ne_o (by assumption) (by assumption)))).trans ?_) (by dsimp only [List.set]) (Nat.le_of_ble_eq_true rfl) (nar_rf rfl _) (fit_rf rfl _) (by first | exact hu_hu | exact rfl) ?_
  first | refine r_aload_n dJ17_init_3_16 rfl ?_ | refine r_aload_nq dJ17_init_3_16 rfl ?_ | refine r_aload_nN dJ17_init_3_16 rfl ?_
  refine r_getstatic (C := "java/lang/Throwable") dJ17_init_3_17 (lkA q611) (Or.inl rfl) k2 ?_
  refine r_put 6 2 dJ17_init_3_20 rfl (Nat.le_of_ble_eq_true rfl) (lkA q830) (Or.inl rfl) rfl (by repeat' first | assumption | exact hu_s | refine hu_o (by assumption) ?_ | refine (hu_n (by first | assumption | exact Ne.symm (by assumption) | exact ne_o (by assumption) (by assumption) | exact Ne.symm (ne_o (by assumption) (by assumption)))).trans ?_) (by dsimp only [List.set]) (Nat.le_of_ble_eq_true rfl) (nar_rf rfl _) (fit_rf rfl _) (by first | exact hu_hu | exact rfl) ?_
  refine r_iload dJ17_init_3_23 rfl ?_
  refine r_if_eq 36 dJ17_init_3_25 rfl (fun c25 => ?_) (fun c25 => absurd c25 (by decide))
  first | refine r_aload_n dJ17_init_3_36 rfl ?_ | refine r_aload_nq dJ17_init_3_36 rfl ?_ | refine r_aload_nN dJ17_init_3_36 rfl ?_
  refine r_null dJ17_init_3_37 ?_
  refine r_put 6 1 dJ17_init_3_38 rfl (Nat.le_of_ble_eq_true rfl) (lkA q829) (Or.inl rfl) rfl (by repeat' first | assumption | exact hu_s | refine hu_o (by assumption) ?_ | refine (hu_n (by first | assumption | exact Ne.symm (by assumption) | exact ne_o (by assumption) (by assumption) | exact Ne.symm (ne_o (by assumption) (by assumption)))).trans ?_) (by dsimp only [List.set]) (Nat.le_of_ble_eq_true rfl) rfl rfl (by first | exact hu_hu | exact rfl) ?_
  first | refine r_aload_n dJ17_init_3_41 rfl ?_ | refine r_aload_nq dJ17_init_3_41 rfl ?_ | refine r_aload_nN dJ17_init_3_41 rfl ?_
  first | refine r_aload_n dJ17_init_3_42 rfl ?_ | refine r_aload_nq dJ17_init_3_42 rfl ?_ | refine r_aload_nN dJ17_init_3_42 rfl ?_
  refine r_put 6 3 dJ17_init_3_43 rfl (Nat.le_of_ble_eq_true rfl) (lkA q827) (Or.inl rfl) rfl (by repeat' first | assumption | exact hu_s | refine hu_o (by assumption) ?_ | refine (hu_n (by first | assumption | exact Ne.symm (by assumption) | exact ne_o (by assumption) (by assumption) | exact Ne.symm (ne_o (by assumption) (by assumption)))).trans ?_) (by dsimp only [List.set]) (Nat.le_of_ble_eq_true rfl) rfl rfl (by first | exact hu_hu | exact rfl) ?_
  first | refine r_aload_n dJ17_init_3_46 rfl ?_ | refine r_aload_nq dJ17_init_3_46 rfl ?_ | refine r_aload_nN dJ17_init_3_46 rfl ?_
  first | refine r_aload_n dJ17_init_3_47 rfl ?_ | refine r_aload_nq dJ17_init_3_47 rfl ?_ | refine r_aload_nN dJ17_init_3_47 rfl ?_
  refine r_put 6 0 dJ17_init_3_48 rfl (Nat.le_of_ble_eq_true rfl) (lkA q828) (Or.inl rfl) rfl (by repeat' first | assumption | exact hu_s | refine hu_o (by assumption) ?_ | refine (hu_n (by first | assumption | exact Ne.symm (by assumption) | exact ne_o (by assumption) (by assumption) | exact Ne.symm (ne_o (by assumption) (by assumption)))).trans ?_) (by dsimp only [List.set]) (Nat.le_of_ble_eq_true rfl) rfl rfl (by first | exact hu_hu | exact rfl) ?_
  refine r_iload_n dJ17_init_3_51 rfl ?_
  refine r_if_ne 60 dJ17_init_3_52 rfl (fun c52 => absurd c52 (by decide)) (fun c52 => ?_)
  first | refine r_aload_n dJ17_init_3_55 rfl ?_ | refine r_aload_nq dJ17_init_3_55 rfl ?_ | refine r_aload_nN dJ17_init_3_55 rfl ?_
  refine r_null dJ17_init_3_56 ?_
  refine r_put 6 2 dJ17_init_3_57 rfl (Nat.le_of_ble_eq_true rfl) (lkA q830) (Or.inl rfl) rfl (by repeat' first | assumption | exact hu_s | refine hu_o (by assumption) ?_ | refine (hu_n (by first | assumption | exact Ne.symm (by assumption) | exact ne_o (by assumption) (by assumption) | exact Ne.symm (ne_o (by assumption) (by assumption)))).trans ?_) (by dsimp only [List.set]) (Nat.le_of_ble_eq_true rfl) rfl rfl (by first | exact hu_hu | exact rfl) ?_
  exact r_return dJ17_init_3_60 rfl ⟨rfl, (hu_same hq).symm⟩

set_option maxHeartbeats 4000000 in
set_option maxRecDepth 100000 in
theorem sp_J18_initX6 {G : GG} {h : HP} (hK : KS G) {q : Nat} {r e : Int32} (hq : h q = some (bO 6 [.null, .null, .null, .null, .null, .int 0, .int r, .int e]))  : Ct G 3 0 M_J18_init_2 [.ref q, .null, .null, .int 0, .int 0] h (eQ none h) := by
  refine ct_intro my_J18_init_2 (Nat.le_of_ble_eq_true rfl) ?_
  first | refine r_aload_n dJ18_init_2_0 rfl ?_ | refine r_aload_nq dJ18_init_2_0 rfl ?_ | refine r_aload_nN dJ18_init_2_0 rfl ?_
  first | refine r_aload_n dJ18_init_2_1 rfl ?_ | refine r_aload_nq dJ18_init_2_1 rfl ?_ | refine r_aload_nN dJ18_init_2_1 rfl ?_
  first | refine r_aload_n dJ18_init_2_2 rfl ?_ | refine r_aload_nq dJ18_init_2_2 rfl ?_ | refine r_aload_nN dJ18_init_2_2 rfl ?_
  refine r_iload_n dJ18_init_2_3 rfl ?_
  refine r_iload dJ18_init_2_4 rfl ?_
  refine r_invI dJ18_init_2_6 (sp_J17_initX6 hK hq) rfl mo_J17_init_3 (lkA q1068) (lkA q1069) rfl rfl rfl (lkA q86) mp_J17_init_3 (Nat.le_of_ble_eq_true rfl) (Nat.le_of_ble_eq_true rfl) (Nat.le_of_ble_eq_true rfl) (kr_e ?_) kx_e
  try simp only [hu_hu]
  exact r_return dJ18_init_2_9 rfl (by first | exact ⟨rfl, rfl⟩ | rfl)

set_option maxHeartbeats 4000000 in
set_option maxRecDepth 100000 in
theorem sp_J17_initX10 {G : GG} {h : HP} (hK : KS G) {q : Nat} {e : Int32} (hq : h q = some (bO 7 [.null, .null, .null, .null, .null, .int 0, .int e]))  : Ct G 2 0 M_J17_init_3 [.ref q, .null, .null, .int 0, .int 0] h (eQ none h) := by
  refine ct_intro my_J17_init_3 (Nat.le_of_ble_eq_true rfl) ?_
  obtain ⟨x1, k1⟩ := hK.2.2.2.1
  obtain ⟨x2, k2⟩ := hK.2.2.2.2
  first | refine r_aload_n dJ17_init_3_0 rfl ?_ | refine r_aload_nq dJ17_init_3_0 rfl ?_ | refine r_aload_nN dJ17_init_3_0 rfl ?_
  refine r_objinit (w1 := .tt) dJ17_init_3_1 (lkA q608) (lkA q112) (lkA q113) (Nat.le_of_ble_eq_true rfl) (Nat.le_of_ble_eq_true rfl) ?_
  first | refine r_aload_n dJ17_init_3_4 rfl ?_ | refine r_aload_nq dJ17_init_3_4 rfl ?_ | refine r_aload_nN dJ17_init_3_4 rfl ?_
  first | refine r_aload_n dJ17_init_3_5 rfl ?_ | refine r_aload_nq dJ17_init_3_5 rfl ?_ | refine r_aload_nN dJ17_init_3_5 rfl ?_
  refine r_put 7 0 dJ17_init_3_6 rfl (Nat.le_of_ble_eq_true rfl) (lkA q828) (Or.inl rfl) rfl (by repeat' first | assumption | exact hu_s | refine hu_o (by assumption) ?_ | refine (hu_n (by first | assumption | exact Ne.symm (by assumption) | exact ne_o (by assumption) (by assumption) | exact Ne.symm (ne_o (by assumption) (by assumption)))).trans ?_) (by dsimp only [List.set]) (Nat.le_of_ble_eq_true rfl) rfl rfl (by first | exact hu_hu | exact rfl) ?_
  first | refine r_aload_n dJ17_init_3_9 rfl ?_ | refine r_aload_nq dJ17_init_3_9 rfl ?_ | refine r_aload_nN dJ17_init_3_9 rfl ?_
  refine r_getstatic (C := "java/lang/Throwable") dJ17_init_3_10 (lkA q609) (Or.inl rfl) k1 ?_
  refine r_put 7 1 dJ17_init_3_13 rfl (Nat.le_of_ble_eq_true rfl) (lkA q829) (Or.inl rfl) rfl (by repeat' first | assumption | exact hu_s | refine hu_o (by assumption) ?_ | refine (hu_n (by first | assumption | exact Ne.symm (by assumption) | exact ne_o (by assumption) (by assumption) | exact Ne.symm (ne_o (by assumption) (by assumption)))).trans ?_) (by dsimp only [List.set]) (Nat.le_of_ble_eq_true rfl) (nar_rf rfl _) (fit_rf rfl _) (by first | exact hu_hu | exact rfl) ?_
  first | refine r_aload_n dJ17_init_3_16 rfl ?_ | refine r_aload_nq dJ17_init_3_16 rfl ?_ | refine r_aload_nN dJ17_init_3_16 rfl ?_
  refine r_getstatic (C := "java/lang/Throwable") dJ17_init_3_17 (lkA q611) (Or.inl rfl) k2 ?_
  refine r_put 7 2 dJ17_init_3_20 rfl (Nat.le_of_ble_eq_true rfl) (lkA q830) (Or.inl rfl) rfl (by repeat' first | assumption | exact hu_s | refine hu_o (by assumption) ?_ | refine (hu_n (by first | assumption | exact Ne.symm (by assumption) | exact ne_o (by assumption) (by assumption) | exact Ne.symm (ne_o (by assumption) (by assumption)))).trans ?_) (by dsimp only [List.set]) (Nat.le_of_ble_eq_true rfl) (nar_rf rfl _) (fit_rf rfl _) (by first | exact hu_hu | exact rfl) ?_
  refine r_iload dJ17_init_3_23 rfl ?_
  refine r_if_eq 36 dJ17_init_3_25 rfl (fun c25 => ?_) (fun c25 => absurd c25 (by decide))
  first | refine r_aload_n dJ17_init_3_36 rfl ?_ | refine r_aload_nq dJ17_init_3_36 rfl ?_ | refine r_aload_nN dJ17_init_3_36 rfl ?_
  refine r_null dJ17_init_3_37 ?_
  refine r_put 7 1 dJ17_init_3_38 rfl (Nat.le_of_ble_eq_true rfl) (lkA q829) (Or.inl rfl) rfl (by repeat' first | assumption | exact hu_s | refine hu_o (by assumption) ?_ | refine (hu_n (by first | assumption | exact Ne.symm (by assumption) | exact ne_o (by assumption) (by assumption) | exact Ne.symm (ne_o (by assumption) (by assumption)))).trans ?_) (by dsimp only [List.set]) (Nat.le_of_ble_eq_true rfl) rfl rfl (by first | exact hu_hu | exact rfl) ?_
  first | refine r_aload_n dJ17_init_3_41 rfl ?_ | refine r_aload_nq dJ17_init_3_41 rfl ?_ | refine r_aload_nN dJ17_init_3_41 rfl ?_
  first | refine r_aload_n dJ17_init_3_42 rfl ?_ | refine r_aload_nq dJ17_init_3_42 rfl ?_ | refine r_aload_nN dJ17_init_3_42 rfl ?_
  refine r_put 7 3 dJ17_init_3_43 rfl (Nat.le_of_ble_eq_true rfl) (lkA q827) (Or.inl rfl) rfl (by repeat' first | assumption | exact hu_s | refine hu_o (by assumption) ?_ | refine (hu_n (by first | assumption | exact Ne.symm (by assumption) | exact ne_o (by assumption) (by assumption) | exact Ne.symm (ne_o (by assumption) (by assumption)))).trans ?_) (by dsimp only [List.set]) (Nat.le_of_ble_eq_true rfl) rfl rfl (by first | exact hu_hu | exact rfl) ?_
  first | refine r_aload_n dJ17_init_3_46 rfl ?_ | refine r_aload_nq dJ17_init_3_46 rfl ?_ | refine r_aload_nN dJ17_init_3_46 rfl ?_
  first | refine r_aload_n dJ17_init_3_47 rfl ?_ | refine r_aload_nq dJ17_init_3_47 rfl ?_ | refine r_aload_nN dJ17_init_3_47 rfl ?_
  refine r_put 7 0 dJ17_init_3_48 rfl (Nat.le_of_ble_eq_true rfl) (lkA q828) (Or.inl rfl) rfl (by repeat' first | assumption | exact hu_s | refine hu_o (by assumption) ?_ | refine (hu_n (by first | assumption | exact Ne.symm (by assumption) | exact ne_o (by assumption) (by assumption) | exact Ne.symm (ne_o (by assumption) (by assumption)))).trans ?_) (by dsimp only [List.set]) (Nat.le_of_ble_eq_true rfl) rfl rfl (by first | exact hu_hu | exact rfl) ?_
  refine r_iload_n dJ17_init_3_51 rfl ?_
  refine r_if_ne 60 dJ17_init_3_52 rfl (fun c52 => absurd c52 (by decide)) (fun c52 => ?_)
  first | refine r_aload_n dJ17_init_3_55 rfl ?_ | refine r_aload_nq dJ17_init_3_55 rfl ?_ | refine r_aload_nN dJ17_init_3_55 rfl ?_
  refine r_null dJ17_init_3_56 ?_
  refine r_put 7 2 dJ17_init_3_57 rfl (Nat.le_of_ble_eq_true rfl) (lkA q830) (Or.inl rfl) rfl (by repeat' first | assumption | exact hu_s | refine hu_o (by assumption) ?_ | refine (hu_n (by first | assumption | exact Ne.symm (by assumption) | exact ne_o (by assumption) (by assumption) | exact Ne.symm (ne_o (by assumption) (by assumption)))).trans ?_) (by dsimp only [List.set]) (Nat.le_of_ble_eq_true rfl) rfl rfl (by first | exact hu_hu | exact rfl) ?_
  exact r_return dJ17_init_3_60 rfl ⟨rfl, (hu_same hq).symm⟩

set_option maxHeartbeats 4000000 in
set_option maxRecDepth 100000 in
theorem sp_J18_initX10 {G : GG} {h : HP} (hK : KS G) {q : Nat} {e : Int32} (hq : h q = some (bO 7 [.null, .null, .null, .null, .null, .int 0, .int e]))  : Ct G 3 0 M_J18_init_2 [.ref q, .null, .null, .int 0, .int 0] h (eQ none h) := by
  refine ct_intro my_J18_init_2 (Nat.le_of_ble_eq_true rfl) ?_
  first | refine r_aload_n dJ18_init_2_0 rfl ?_ | refine r_aload_nq dJ18_init_2_0 rfl ?_ | refine r_aload_nN dJ18_init_2_0 rfl ?_
  first | refine r_aload_n dJ18_init_2_1 rfl ?_ | refine r_aload_nq dJ18_init_2_1 rfl ?_ | refine r_aload_nN dJ18_init_2_1 rfl ?_
  first | refine r_aload_n dJ18_init_2_2 rfl ?_ | refine r_aload_nq dJ18_init_2_2 rfl ?_ | refine r_aload_nN dJ18_init_2_2 rfl ?_
  refine r_iload_n dJ18_init_2_3 rfl ?_
  refine r_iload dJ18_init_2_4 rfl ?_
  refine r_invI dJ18_init_2_6 (sp_J17_initX10 hK hq) rfl mo_J17_init_3 (lkA q1068) (lkA q1069) rfl rfl rfl (lkA q86) mp_J17_init_3 (Nat.le_of_ble_eq_true rfl) (Nat.le_of_ble_eq_true rfl) (Nat.le_of_ble_eq_true rfl) (kr_e ?_) kx_e
  try simp only [hu_hu]
  exact r_return dJ18_init_2_9 rfl (by first | exact ⟨rfl, rfl⟩ | rfl)

set_option maxHeartbeats 4000000 in
set_option maxRecDepth 100000 in
theorem sp_X6_init {G : GG} {h : HP} (hK : KS G) {q : Nat} {r e : Int32} (hq : h q = some (bO 6 [.null, .null, .null, .null, .null, .int 0, .int 0, .int 0])) : Ct G 4 0 M_X6_init [.ref q, .int r, .int e] h (eQ none (hu h q (bRef r e))) := by
  refine ct_intro my_X6_init (Nat.le_of_ble_eq_true rfl) ?_
  first | refine r_aload_n dX6_init_0 rfl ?_ | refine r_aload_nq dX6_init_0 rfl ?_ | refine r_aload_nN dX6_init_0 rfl ?_
  refine r_null dX6_init_1 ?_
  refine r_null dX6_init_2 ?_
  refine r_iconst (v := 0) dX6_init_3 rfl ?_
  refine r_iconst (v := 0) dX6_init_4 rfl ?_
  refine r_invI dX6_init_5 (sp_J18_initX6 hK hq) rfl mo_J18_init_2 (lkA q1065) (lkA q1066) rfl rfl rfl (lkA q87) mp_J18_init_2 (Nat.le_of_ble_eq_true rfl) (Nat.le_of_ble_eq_true rfl) (Nat.le_of_ble_eq_true rfl) (kr_e ?_) kx_e
  try simp only [hu_hu]
  first | refine r_aload_n dX6_init_8 rfl ?_ | refine r_aload_nq dX6_init_8 rfl ?_ | refine r_aload_nN dX6_init_8 rfl ?_
  refine r_iload_n dX6_init_9 rfl ?_
  refine r_putF 6 6 dX6_init_10 rfl (Nat.le_of_ble_eq_true rfl) (lkA q1071) rfl rfl rfl (by repeat' first | assumption | exact hu_s | refine hu_o (by assumption) ?_ | refine (hu_n (by first | assumption | exact Ne.symm (by assumption) | exact ne_o (by assumption) (by assumption) | exact Ne.symm (ne_o (by assumption) (by assumption)))).trans ?_) (by dsimp only [List.set]) (Nat.le_of_ble_eq_true rfl) rfl rfl (by first | exact hu_hu | exact rfl) ?_
  first | refine r_aload_n dX6_init_13 rfl ?_ | refine r_aload_nq dX6_init_13 rfl ?_ | refine r_aload_nN dX6_init_13 rfl ?_
  refine r_iload_n dX6_init_14 rfl ?_
  refine r_putF 6 7 dX6_init_15 rfl (Nat.le_of_ble_eq_true rfl) (lkA q1073) rfl rfl rfl (by repeat' first | assumption | exact hu_s | refine hu_o (by assumption) ?_ | refine (hu_n (by first | assumption | exact Ne.symm (by assumption) | exact ne_o (by assumption) (by assumption) | exact Ne.symm (ne_o (by assumption) (by assumption)))).trans ?_) (by dsimp only [List.set]) (Nat.le_of_ble_eq_true rfl) rfl rfl (by first | exact hu_hu | exact rfl) ?_
  exact r_return dX6_init_18 rfl (by first | exact ⟨rfl, rfl⟩ | rfl)

set_option maxHeartbeats 4000000 in
set_option maxRecDepth 100000 in
theorem sp_X10_init {G : GG} {h : HP} (hK : KS G) {q : Nat} {e : Int32} (hq : h q = some (bO 7 [.null, .null, .null, .null, .null, .int 0, .int 0])) : Ct G 4 0 M_X10_init [.ref q, .int e] h (eQ none (hu h q (bWro e))) := by
  refine ct_intro my_X10_init (Nat.le_of_ble_eq_true rfl) ?_
  first | refine r_aload_n dX10_init_0 rfl ?_ | refine r_aload_nq dX10_init_0 rfl ?_ | refine r_aload_nN dX10_init_0 rfl ?_
  refine r_null dX10_init_1 ?_
  refine r_null dX10_init_2 ?_
  refine r_iconst (v := 0) dX10_init_3 rfl ?_
  refine r_iconst (v := 0) dX10_init_4 rfl ?_
  refine r_invI dX10_init_5 (sp_J18_initX10 hK hq) rfl mo_J18_init_2 (lkA q1565) (lkA q1066) rfl rfl rfl (lkA q87) mp_J18_init_2 (Nat.le_of_ble_eq_true rfl) (Nat.le_of_ble_eq_true rfl) (Nat.le_of_ble_eq_true rfl) (kr_e ?_) kx_e
  try simp only [hu_hu]
  first | refine r_aload_n dX10_init_8 rfl ?_ | refine r_aload_nq dX10_init_8 rfl ?_ | refine r_aload_nN dX10_init_8 rfl ?_
  refine r_iload_n dX10_init_9 rfl ?_
  refine r_putF 7 6 dX10_init_10 rfl (Nat.le_of_ble_eq_true rfl) (lkA q1566) rfl rfl rfl (by repeat' first | assumption | exact hu_s | refine hu_o (by assumption) ?_ | refine (hu_n (by first | assumption | exact Ne.symm (by assumption) | exact ne_o (by assumption) (by assumption) | exact Ne.symm (ne_o (by assumption) (by assumption)))).trans ?_) (by dsimp only [List.set]) (Nat.le_of_ble_eq_true rfl) rfl rfl (by first | exact hu_hu | exact rfl) ?_
  exact r_return dX10_init_13 rfl (by first | exact ⟨rfl, rfl⟩ | rfl)

set_option maxHeartbeats 4000000 in
set_option maxRecDepth 100000 in
theorem sp_X0_refuse1 {G : GG} {h : HP} (hK : KS G) {r e : Int32} : Ct G 5 9 M_X0_refuse [.int 1, .int r, .int e] h (thQ (bRef r e) h) := by
  refine ct_intro my_X0_refuse (Nat.le_of_ble_eq_true rfl) ?_
  refine r_iload_n dX0_refuse_0 rfl ?_
  refine r_if_eq 14 dX0_refuse_1 rfl (fun c1 => absurd c1 (by decide)) (fun c1 => ?_)
  refine r_new 6 [.null, .null, .null, .null, .null, .int 0, .int 0, .int 0] dX0_refuse_4 rfl (lkA q430) (lkA q1054) (lkA q98) (fun j hj => match j, hj with | 0, _ => rfl | 1, _ => rfl | 2, _ => rfl | 3, _ => rfl | 4, _ => rfl | 5, _ => rfl | 6, _ => rfl | 7, _ => rfl | k + 8, hk => absurd hk (Nat.not_lt.mpr (Nat.le_add_left 8 k))) (Nat.le_of_ble_eq_true rfl) (fun q4 hq4 => ?_)
  refine r_dup dX0_refuse_7 rfl ?_
  refine r_iload_n dX0_refuse_8 rfl ?_
  refine r_iload_n dX0_refuse_9 rfl ?_
  refine r_invI dX0_refuse_10 (sp_X6_init hK hu_s) rfl mo_X6_init (lkA q1062) (lkA q1063) rfl rfl rfl (lkA q98) mp_X6_init (Nat.le_of_ble_eq_true rfl) (Nat.le_of_ble_eq_true rfl) (Nat.le_of_ble_eq_true rfl) (kr_e ?_) kx_e
  try simp only [hu_hu]
  refine r_athrow dX0_refuse_13 ?_
  exact r_out hu_s rfl ⟨hq4, rfl⟩

set_option maxHeartbeats 4000000 in
set_option maxRecDepth 100000 in
theorem sp_X0_refuse0 {G : GG} {h : HP} {r e : Int32} : Ct G 0 0 M_X0_refuse [.int 0, .int r, .int e] h (eQ none h) := by
  refine ct_intro my_X0_refuse (Nat.le_of_ble_eq_true rfl) ?_
  refine r_iload_n dX0_refuse_0 rfl ?_
  refine r_if_eq 14 dX0_refuse_1 rfl (fun c1 => ?_) (fun c1 => absurd c1 (by decide))
  exact r_return dX0_refuse_14 rfl (by first | exact ⟨rfl, rfl⟩ | rfl)

set_option maxHeartbeats 4000000 in
set_option maxRecDepth 100000 in
theorem sp_X0_refuse {G : GG} {h : HP} (hK : KS G) {b : Bool} {r e : Int32} : Ct G 5 9 M_X0_refuse [.int (bi b), .int r, .int e] h (tfQ (b = true) (bRef r e) h) := by
  refine ct_intro my_X0_refuse (Nat.le_of_ble_eq_true rfl) ?_
  refine r_iload_n dX0_refuse_0 rfl ?_
  refine r_if_eq 14 dX0_refuse_1 rfl (fun c1 => ?_) (fun c1 => ?_)
  · exact r_return dX0_refuse_14 rfl ⟨by rw [bi_0.mp c1]; decide, rfl, rfl⟩
  · refine r_new 6 [.null, .null, .null, .null, .null, .int 0, .int 0, .int 0] dX0_refuse_4 rfl (lkA q430) (lkA q1054) (lkA q98) (fun j hj => match j, hj with | 0, _ => rfl | 1, _ => rfl | 2, _ => rfl | 3, _ => rfl | 4, _ => rfl | 5, _ => rfl | 6, _ => rfl | 7, _ => rfl | k + 8, hk => absurd hk (Nat.not_lt.mpr (Nat.le_add_left 8 k))) (Nat.le_of_ble_eq_true rfl) (fun q4 hq4 => ?_)
    refine r_dup dX0_refuse_7 rfl ?_
    refine r_iload_n dX0_refuse_8 rfl ?_
    refine r_iload_n dX0_refuse_9 rfl ?_
    refine r_invI dX0_refuse_10 (sp_X6_init hK hu_s) rfl mo_X6_init (lkA q1062) (lkA q1063) rfl rfl rfl (lkA q98) mp_X6_init (Nat.le_of_ble_eq_true rfl) (Nat.le_of_ble_eq_true rfl) (Nat.le_of_ble_eq_true rfl) (kr_e ?_) kx_e
    try simp only [hu_hu]
    refine r_athrow dX0_refuse_13 ?_
    exact r_out hu_s rfl ⟨bi_n0.mp c1, hq4, rfl⟩

