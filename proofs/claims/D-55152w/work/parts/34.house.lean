set_option maxRecDepth 100000
set_option maxHeartbeats 4000000 in
set_option maxRecDepth 100000 in
theorem rounds_2 {G : GG} {h : HP} {a : Nat} {c p w s b g : Int32} {r : Nat} {x : Int32} (ha : h a = some (bO 4 [.int c, .int p, .int w, .ref r, .int s, .int b, .int g])) (H : Int) (N : Nat) (Rr : Int) (hH : (2 * iabs (p - x)).toInt = H) (h0 : 0 < H) (h9 : H ≤ 38) (hR : Rr ≤ 100) (hR2 : 100 < Rr + H) (hN : N < 1000) : ∀ (k i : Nat) (n9 t : Int32), n9.toInt = (i : Int) → t.toInt + H * (k : Int) = Rr ∧ 0 ≤ t.toInt → i + k = N → V G 3 M_X4_rounds 7 [(3, .int n9), (2, .int t), (0, .ref a), (1, .int x)] [] h 0 (eQ (some (.int (nI N))) h) := by
  intro k
  induction k with
  | zero =>
    intro i n9 t hn ht hk
    obtain rfl : i = N := by omega
    obtain rfl : n9 = nI i := i32_of hn
    have h00 : H * ((0 : Nat) : Int) = 0 := by simp
    refine r_iload_n dX4_rounds_7 rfl ?_
    refine r_iconst (v := 2) dX4_rounds_8 rfl ?_
    first | refine r_aload_n dX4_rounds_9 rfl ?_ | refine r_aload_nq dX4_rounds_9 rfl ?_ | refine r_aload_nN dX4_rounds_9 rfl ?_
    refine r_iload_n dX4_rounds_10 rfl ?_
    refine r_invD (owner := "BrushSellers$Placed") dX4_rounds_11 (sp_X7_houses ha) rfl mo_X7_houses (by first | exact Or.inl (by assumption) | assumption | (refine Or.inl ?_; repeat' first | assumption | exact hu_s | refine hu_o (by assumption) ?_ | refine (hu_n (by first | assumption | exact Ne.symm (by assumption) | exact ne_o (by assumption) (by assumption) | exact Ne.symm (ne_o (by assumption) (by assumption)))).trans ?_)) rfl nw_3 nw_6 q1258 ⟨by decide +kernel, by decide +kernel⟩ nw_8 (lkA q1260) rfl (show _ = some 1 from by decide +kernel) (lkA q102) mp_X7_houses (Nat.le_of_ble_eq_true rfl) (Nat.le_of_ble_eq_true rfl) (Nat.le_of_ble_eq_true rfl) (kr_e ?_) kx_e
    refine r_imul dX4_rounds_14 ?_
    refine r_iadd dX4_rounds_15 ?_
    refine r_bipush (v := 100) dX4_rounds_16 rfl ?_
    refine r_icmp_gt 37 dX4_rounds_18 rfl (fun c18 => ?_) (fun c18 => absurd c18 (by intro hq; rw [Int32.lt_iff_toInt_lt, tI_add, hH] at hq; simp only [Int32.reduceToInt] at hq; rw [if_pos (by omega)] at hq; omega))
    refine r_iload_n dX4_rounds_37 rfl ?_
    exact r_ireturn dX4_rounds_38 rfl (by first | rfl | exact bi_nar) (by first | exact ⟨rfl, rfl⟩ | rfl)
  | succ k ih =>
    intro i n9 t hn ht hk
    have hk0 : 0 ≤ H * (k : Int) := Int.mul_nonneg (by omega) (by omega)
    have hk1 : H * ((k + 1 : Nat) : Int) = H * (k : Int) + H := by rw [Int.natCast_add, Int.mul_add]; simp
    have htt : (t + 2 * iabs (p - x)).toInt = t.toInt + H := by rw [tI_add, hH, if_pos (by omega)]
    refine r_iload_n dX4_rounds_7 rfl ?_
    refine r_iconst (v := 2) dX4_rounds_8 rfl ?_
    first | refine r_aload_n dX4_rounds_9 rfl ?_ | refine r_aload_nq dX4_rounds_9 rfl ?_ | refine r_aload_nN dX4_rounds_9 rfl ?_
    refine r_iload_n dX4_rounds_10 rfl ?_
    refine r_invD (owner := "BrushSellers$Placed") dX4_rounds_11 (sp_X7_houses ha) rfl mo_X7_houses (by first | exact Or.inl (by assumption) | assumption | (refine Or.inl ?_; repeat' first | assumption | exact hu_s | refine hu_o (by assumption) ?_ | refine (hu_n (by first | assumption | exact Ne.symm (by assumption) | exact ne_o (by assumption) (by assumption) | exact Ne.symm (ne_o (by assumption) (by assumption)))).trans ?_)) rfl nw_3 nw_6 q1258 ⟨by decide +kernel, by decide +kernel⟩ nw_8 (lkA q1260) rfl (show _ = some 1 from by decide +kernel) (lkA q102) mp_X7_houses (Nat.le_of_ble_eq_true rfl) (Nat.le_of_ble_eq_true rfl) (Nat.le_of_ble_eq_true rfl) (kr_e ?_) kx_e
    refine r_imul dX4_rounds_14 ?_
    refine r_iadd dX4_rounds_15 ?_
    refine r_bipush (v := 100) dX4_rounds_16 rfl ?_
    refine r_icmp_gt 37 dX4_rounds_18 rfl (fun c18 => absurd c18 (by intro hq; rw [Int32.lt_iff_toInt_lt, htt] at hq; simp only [Int32.reduceToInt] at hq; omega)) (fun c18 => ?_)
    refine r_iload_n dX4_rounds_21 rfl ?_
    refine r_iconst (v := 2) dX4_rounds_22 rfl ?_
    first | refine r_aload_n dX4_rounds_23 rfl ?_ | refine r_aload_nq dX4_rounds_23 rfl ?_ | refine r_aload_nN dX4_rounds_23 rfl ?_
    refine r_iload_n dX4_rounds_24 rfl ?_
    refine r_invD (owner := "BrushSellers$Placed") dX4_rounds_25 (sp_X7_houses ha) rfl mo_X7_houses (by first | exact Or.inl (by assumption) | assumption | (refine Or.inl ?_; repeat' first | assumption | exact hu_s | refine hu_o (by assumption) ?_ | refine (hu_n (by first | assumption | exact Ne.symm (by assumption) | exact ne_o (by assumption) (by assumption) | exact Ne.symm (ne_o (by assumption) (by assumption)))).trans ?_)) rfl nw_3 nw_6 q1258 ⟨by decide +kernel, by decide +kernel⟩ nw_8 (lkA q1260) rfl (show _ = some 1 from by decide +kernel) (lkA q102) mp_X7_houses (Nat.le_of_ble_eq_true rfl) (Nat.le_of_ble_eq_true rfl) (Nat.le_of_ble_eq_true rfl) (kr_e ?_) kx_e
    refine r_imul dX4_rounds_28 ?_
    refine r_iadd dX4_rounds_29 ?_
    refine r_istore_n dX4_rounds_30 (Nat.le_of_ble_eq_true rfl) ?_
    refine r_inc 1 dX4_rounds_31 rfl rfl (Nat.le_of_ble_eq_true rfl) ?_
    refine r_goto 7 dX4_rounds_34 rfl ?_
    refine V_loc (L' := [(3, .int (n9 + 1)), (2, .int (t + 2 * iabs (p - x))), (0, .ref a), (1, .int x)]) ⟨rfl, rfl, rfl, rfl, trivial⟩ ?_
    exact ih (i + 1) _ _ (by simp only [tI_add, Int32.reduceToInt]; omega) (by rw [htt]; omega) (by omega)

set_option maxHeartbeats 4000000 in
set_option maxRecDepth 100000 in
theorem sp_X4_rounds {G : GG} {h : HP} {a : Nat} {c p w s b g : Int32} {r : Nat} {x : Int32} (ha : h a = some (bO 4 [.int c, .int p, .int w, .ref r, .int s, .int b, .int g])) (H : Int) (N : Nat) (hH : (2 * iabs (p - x)).toInt = H) (h0 : 0 < H) (h9 : H ≤ 38) (hw : 0 ≤ w.toInt) (hR : w.toInt + H * (N : Int) ≤ 100) (hR2 : 100 < w.toInt + H * (N : Int) + H) (hN : N < 1000) : Ct G 3 0 M_X4_rounds [.ref a, .int x] h (eQ (some (.int (nI N))) h) := by
  refine ct_intro my_X4_rounds (Nat.le_of_ble_eq_true rfl) ?_
  first | refine r_aload_n dX4_rounds_0 rfl ?_ | refine r_aload_nq dX4_rounds_0 rfl ?_ | refine r_aload_nN dX4_rounds_0 rfl ?_
  refine r_getfield 4 2 dX4_rounds_1 rfl (Nat.le_of_ble_eq_true rfl) (lkA q877) (Or.inl rfl) (by first | exact Or.inl (by assumption) | assumption | (refine Or.inl ?_; repeat' first | assumption | exact hu_s | refine hu_o (by assumption) ?_ | refine (hu_n (by first | assumption | exact Ne.symm (by assumption) | exact ne_o (by assumption) (by assumption) | exact Ne.symm (ne_o (by assumption) (by assumption)))).trans ?_)) (by rfl) ?_
  refine r_istore_n dX4_rounds_4 (Nat.le_of_ble_eq_true rfl) ?_
  refine r_iconst (v := 0) dX4_rounds_5 rfl ?_
  refine r_istore_n dX4_rounds_6 (Nat.le_of_ble_eq_true rfl) ?_
  refine V_loc (L' := [(3, .int 0), (2, .int w), (0, .ref a), (1, .int x)]) ⟨rfl, rfl, rfl, rfl, trivial⟩ ?_
  exact rounds_2 ha H N (w.toInt + H * (N : Int)) hH h0 h9 hR hR2 hN N 0 0 w rfl ⟨rfl, hw⟩ (by omega)

theorem cpy3 {f g : Nat → Int32} (hg : ∀ j, 3 ≤ j → g j = 0) (hf : ∀ j, 3 ≤ j → f j = 0) : va_cpy f g 0 0 3 = f := by
  funext j
  by_cases e : j < 3
  · exact sb_cpy0 e
  · rw [pk_cpy_out (by omega), hg j (by omega), hf j (by omega)]
set_option maxHeartbeats 4000000 in
set_option maxRecDepth 100000 in
theorem sp_X4_copy {G : GG} {h : HP} {a : Nat} {c p w s b g : Int32} {r : Nat} {f : Nat → Int32} (ha : h a = some (bO 4 [.int c, .int p, .int w, .ref r, .int s, .int b, .int g])) (hr : h r = some (bI 0 3 f)) (hf : ∀ j, 3 ≤ j → f j = 0) : Ct G 2 12 M_X4_copy [.ref a] h (rQ (fun v h' => ∃ q k, v = some (.ref q) ∧ h q = none ∧ h k = none ∧ k ≠ q ∧ h' = hu (hu h k (bI 0 3 f)) q (bO 4 [.int c, .int p, .int w, .ref k, .int s, .int b, .int g]))) := by
  refine ct_intro my_X4_copy (Nat.le_of_ble_eq_true rfl) ?_
  refine r_new 4 [.int 0, .int 0, .int 0, .null, .int 0, .int 0, .int 0] dX4_copy_0 rfl (lkA q867) (lkA q868) (lkA q91) (fun j hj => match j, hj with | 0, _ => rfl | 1, _ => rfl | 2, _ => rfl | 3, _ => rfl | 4, _ => rfl | 5, _ => rfl | 6, _ => rfl | k + 7, hk => absurd hk (Nat.not_lt.mpr (Nat.le_add_left 7 k))) (Nat.le_of_ble_eq_true rfl) (fun q0 hq0 => ?_)
  refine r_dup dX4_copy_3 rfl ?_
  first | refine r_aload_n dX4_copy_4 rfl ?_ | refine r_aload_nq dX4_copy_4 rfl ?_ | refine r_aload_nN dX4_copy_4 rfl ?_
  refine r_getfield 4 0 dX4_copy_5 rfl (Nat.le_of_ble_eq_true rfl) (lkA q873) (Or.inl rfl) (by first | exact Or.inl (by assumption) | assumption | (refine Or.inl ?_; repeat' first | assumption | exact hu_s | refine hu_o (by assumption) ?_ | refine (hu_n (by first | assumption | exact Ne.symm (by assumption) | exact ne_o (by assumption) (by assumption) | exact Ne.symm (ne_o (by assumption) (by assumption)))).trans ?_)) (by rfl) ?_
  refine r_invI dX4_copy_8 (sp_X4_init (x := c) hu_s) rfl mo_X4_init (lkA q869) (lkA q870) rfl rfl rfl (lkA q91) mp_X4_init (Nat.le_of_ble_eq_true rfl) (Nat.le_of_ble_eq_true rfl) (Nat.le_of_ble_eq_true rfl) (kr_r (fun v9 h9 p9 => ?_)) kx_r
  obtain ⟨rfl, k, hk, rfl⟩ := p9
  have hkq : k ≠ q0 := (ov_none_hu hk).1
  have hk0 : h k = none := (ov_none_hu hk).2
  rw [hu_c (Ne.symm hkq), hu_hu]
  have haq : a ≠ q0 := ne_o hq0 ha
  have hak : a ≠ k := ne_o hk0 ha
  have hrq : r ≠ q0 := ne_o hq0 hr
  have hrk : r ≠ k := ne_o hk0 hr
  have ha2 : ∀ y z, hu (hu h k y) q0 z a = some (bO 4 [.int c, .int p, .int w, .ref r, .int s, .int b, .int g]) := fun y z => (hu_n haq).trans ((hu_n hak).trans ha)
  have hr2 : ∀ y z, hu (hu h k y) q0 z r = some (bI 0 3 f) := fun y z => (hu_n hrq).trans ((hu_n hrk).trans hr)
  first | refine r_astore_n dX4_copy_11 (Nat.le_of_ble_eq_true rfl) ?_ | refine r_astore_nq dX4_copy_11 (Nat.le_of_ble_eq_true rfl) ?_ | refine r_astore_nN dX4_copy_11 (Nat.le_of_ble_eq_true rfl) ?_
  first | refine r_aload_n dX4_copy_12 rfl ?_ | refine r_aload_nq dX4_copy_12 rfl ?_ | refine r_aload_nN dX4_copy_12 rfl ?_
  first | refine r_aload_n dX4_copy_13 rfl ?_ | refine r_aload_nq dX4_copy_13 rfl ?_ | refine r_aload_nN dX4_copy_13 rfl ?_
  refine r_getfield 4 1 dX4_copy_14 rfl (Nat.le_of_ble_eq_true rfl) (lkA q875) (Or.inl rfl) (Or.inl (ha2 _ _)) (by rfl) ?_
  refine r_put 4 1 dX4_copy_17 rfl (Nat.le_of_ble_eq_true rfl) (lkA q875) (Or.inl rfl) rfl (by repeat' first | assumption | exact hu_s | refine hu_o (by assumption) ?_ | refine (hu_n (by first | assumption | exact Ne.symm (by assumption) | exact ne_o (by assumption) (by assumption) | exact Ne.symm (ne_o (by assumption) (by assumption)))).trans ?_) (by dsimp only [List.set]) (Nat.le_of_ble_eq_true rfl) rfl rfl (by first | exact hu_hu | exact rfl) ?_
  first | refine r_aload_n dX4_copy_20 rfl ?_ | refine r_aload_nq dX4_copy_20 rfl ?_ | refine r_aload_nN dX4_copy_20 rfl ?_
  first | refine r_aload_n dX4_copy_21 rfl ?_ | refine r_aload_nq dX4_copy_21 rfl ?_ | refine r_aload_nN dX4_copy_21 rfl ?_
  refine r_getfield 4 2 dX4_copy_22 rfl (Nat.le_of_ble_eq_true rfl) (lkA q877) (Or.inl rfl) (Or.inl (ha2 _ _)) (by rfl) ?_
  refine r_put 4 2 dX4_copy_25 rfl (Nat.le_of_ble_eq_true rfl) (lkA q877) (Or.inl rfl) rfl (by repeat' first | assumption | exact hu_s | refine hu_o (by assumption) ?_ | refine (hu_n (by first | assumption | exact Ne.symm (by assumption) | exact ne_o (by assumption) (by assumption) | exact Ne.symm (ne_o (by assumption) (by assumption)))).trans ?_) (by dsimp only [List.set]) (Nat.le_of_ble_eq_true rfl) rfl rfl (by first | exact hu_hu | exact rfl) ?_
  first | refine r_aload_n dX4_copy_28 rfl ?_ | refine r_aload_nq dX4_copy_28 rfl ?_ | refine r_aload_nN dX4_copy_28 rfl ?_
  refine r_getfield 4 3 dX4_copy_29 rfl (Nat.le_of_ble_eq_true rfl) (lkA q879) (Or.inl rfl) (Or.inl (ha2 _ _)) (by rfl) ?_
  refine r_iconst (v := 0) dX4_copy_32 rfl ?_
  first | refine r_aload_n dX4_copy_33 rfl ?_ | refine r_aload_nq dX4_copy_33 rfl ?_ | refine r_aload_nN dX4_copy_33 rfl ?_
  refine r_getfield 4 3 dX4_copy_34 rfl (Nat.le_of_ble_eq_true rfl) (lkA q879) (Or.inl rfl) (by first | exact Or.inl (by assumption) | assumption | (refine Or.inl ?_; repeat' first | assumption | exact hu_s | refine hu_o (by assumption) ?_ | refine (hu_n (by first | assumption | exact Ne.symm (by assumption) | exact ne_o (by assumption) (by assumption) | exact Ne.symm (ne_o (by assumption) (by assumption)))).trans ?_)) (by rfl) ?_
  refine r_iconst (v := 0) dX4_copy_37 rfl ?_
  refine r_iconst (v := 3) dX4_copy_38 rfl ?_
  refine r_copy 0 0 3 dX4_copy_39 (Or.inl rfl) (lkA q901) (lkA q294) (lkA q293) (lkA q76) (Or.inl (hr2 _ _)) ((hu_n hkq).trans hu_s) rfl rfl rfl (by decide) (by decide) (fun e => by cases e) (Nat.le_of_ble_eq_true rfl) (Nat.le_of_ble_eq_true rfl) ?_
  rw [hu_c (Ne.symm hkq), hu_hu, cpy3 (fun _ _ => rfl) hf]
  first | refine r_aload_n dX4_copy_42 rfl ?_ | refine r_aload_nq dX4_copy_42 rfl ?_ | refine r_aload_nN dX4_copy_42 rfl ?_
  first | refine r_aload_n dX4_copy_43 rfl ?_ | refine r_aload_nq dX4_copy_43 rfl ?_ | refine r_aload_nN dX4_copy_43 rfl ?_
  refine r_getfield 4 4 dX4_copy_44 rfl (Nat.le_of_ble_eq_true rfl) (lkA q881) (Or.inl rfl) (Or.inl (ha2 _ _)) (by rfl) ?_
  refine r_put 4 4 dX4_copy_47 rfl (Nat.le_of_ble_eq_true rfl) (lkA q881) (Or.inl rfl) rfl (by repeat' first | assumption | exact hu_s | refine hu_o (by assumption) ?_ | refine (hu_n (by first | assumption | exact Ne.symm (by assumption) | exact ne_o (by assumption) (by assumption) | exact Ne.symm (ne_o (by assumption) (by assumption)))).trans ?_) (by dsimp only [List.set]) (Nat.le_of_ble_eq_true rfl) rfl rfl (by first | exact hu_hu | exact rfl) ?_
  first | refine r_aload_n dX4_copy_50 rfl ?_ | refine r_aload_nq dX4_copy_50 rfl ?_ | refine r_aload_nN dX4_copy_50 rfl ?_
  first | refine r_aload_n dX4_copy_51 rfl ?_ | refine r_aload_nq dX4_copy_51 rfl ?_ | refine r_aload_nN dX4_copy_51 rfl ?_
  refine r_getfield 4 5 dX4_copy_52 rfl (Nat.le_of_ble_eq_true rfl) (lkA q883) (Or.inl rfl) (Or.inl (ha2 _ _)) (by rfl) ?_
  refine r_put 4 5 dX4_copy_55 rfl (Nat.le_of_ble_eq_true rfl) (lkA q883) (Or.inl rfl) rfl (by repeat' first | assumption | exact hu_s | refine hu_o (by assumption) ?_ | refine (hu_n (by first | assumption | exact Ne.symm (by assumption) | exact ne_o (by assumption) (by assumption) | exact Ne.symm (ne_o (by assumption) (by assumption)))).trans ?_) (by dsimp only [List.set]) (Nat.le_of_ble_eq_true rfl) rfl rfl (by first | exact hu_hu | exact rfl) ?_
  first | refine r_aload_n dX4_copy_58 rfl ?_ | refine r_aload_nq dX4_copy_58 rfl ?_ | refine r_aload_nN dX4_copy_58 rfl ?_
  first | refine r_aload_n dX4_copy_59 rfl ?_ | refine r_aload_nq dX4_copy_59 rfl ?_ | refine r_aload_nN dX4_copy_59 rfl ?_
  refine r_getfield 4 6 dX4_copy_60 rfl (Nat.le_of_ble_eq_true rfl) (lkA q885) (Or.inl rfl) (Or.inl (ha2 _ _)) (by rfl) ?_
  refine r_put 4 6 dX4_copy_63 rfl (Nat.le_of_ble_eq_true rfl) (lkA q885) (Or.inl rfl) rfl (by repeat' first | assumption | exact hu_s | refine hu_o (by assumption) ?_ | refine (hu_n (by first | assumption | exact Ne.symm (by assumption) | exact ne_o (by assumption) (by assumption) | exact Ne.symm (ne_o (by assumption) (by assumption)))).trans ?_) (by dsimp only [List.set]) (Nat.le_of_ble_eq_true rfl) rfl rfl (by first | exact hu_hu | exact rfl) ?_
  first | refine r_aload_n dX4_copy_66 rfl ?_ | refine r_aload_nq dX4_copy_66 rfl ?_ | refine r_aload_nN dX4_copy_66 rfl ?_
  first | exact r_areturn dX4_copy_67 rfl rfl ⟨q0, k, rfl, hq0, hk0, hkq, rfl⟩ | exact r_areturnq dX4_copy_67 rfl rfl ⟨q0, k, rfl, hq0, hk0, hkq, rfl⟩ | exact r_areturnN dX4_copy_67 rfl rfl ⟨q0, k, rfl, hq0, hk0, hkq, rfl⟩

set_option maxHeartbeats 4000000 in
set_option maxRecDepth 100000 in
theorem sp_X2_house {G : GG} {h : HP} {a : Nat} {nr t dg bt : Int32} {b : Nat} (ha : h a = some (bO 2 [.int nr, .int t, .int dg, .int bt, .ref b]))  : Ct G 0 0 M_X2_house [.ref a] h (eQ (some (.int nr)) h) := by
  refine ct_intro my_X2_house (Nat.le_of_ble_eq_true rfl) ?_
  first | refine r_aload_n dX2_house_0 rfl ?_ | refine r_aload_nq dX2_house_0 rfl ?_ | refine r_aload_nN dX2_house_0 rfl ?_
  refine r_getfield 2 0 dX2_house_1 rfl (Nat.le_of_ble_eq_true rfl) (lkA q207) (Or.inl rfl) (by first | exact Or.inl (by assumption) | assumption | (refine Or.inl ?_; repeat' first | assumption | exact hu_s | refine hu_o (by assumption) ?_ | refine (hu_n (by first | assumption | exact Ne.symm (by assumption) | exact ne_o (by assumption) (by assumption) | exact Ne.symm (ne_o (by assumption) (by assumption)))).trans ?_)) (by rfl) ?_
  exact r_ireturn dX2_house_4 rfl (by first | rfl | exact bi_nar) (by first | exact ⟨rfl, rfl⟩ | rfl)

set_option maxHeartbeats 4000000 in
set_option maxRecDepth 100000 in
theorem sp_X2_steps {G : GG} {h : HP} {a : Nat} {nr t dg bt : Int32} {b : Nat} (ha : h a = some (bO 2 [.int nr, .int t, .int dg, .int bt, .ref b]))  : Ct G 0 0 M_X2_steps [.ref a] h (eQ (some (.int (gSteps nr))) h) := by
  refine ct_intro my_X2_steps (Nat.le_of_ble_eq_true rfl) ?_
  refine r_iconst (v := 1) dX2_steps_0 rfl ?_
  refine r_iconst (v := 3) dX2_steps_1 rfl ?_
  first | refine r_aload_n dX2_steps_2 rfl ?_ | refine r_aload_nq dX2_steps_2 rfl ?_ | refine r_aload_nN dX2_steps_2 rfl ?_
  refine r_getfield 2 0 dX2_steps_3 rfl (Nat.le_of_ble_eq_true rfl) (lkA q207) (Or.inl rfl) (by first | exact Or.inl (by assumption) | assumption | (refine Or.inl ?_; repeat' first | assumption | exact hu_s | refine hu_o (by assumption) ?_ | refine (hu_n (by first | assumption | exact Ne.symm (by assumption) | exact ne_o (by assumption) (by assumption) | exact Ne.symm (ne_o (by assumption) (by assumption)))).trans ?_)) (by rfl) ?_
  refine r_imul dX2_steps_6 ?_
  refine r_iconst (v := 5) dX2_steps_7 rfl ?_
  refine r_irem dX2_steps_8 (by decide) ?_
  refine r_iadd dX2_steps_9 ?_
  exact r_ireturn dX2_steps_10 rfl (by first | rfl | exact bi_nar) (by first | exact ⟨rfl, rfl⟩ | rfl)

set_option maxHeartbeats 4000000 in
set_option maxRecDepth 100000 in
theorem sp_X2_isGuarded {G : GG} {h : HP} {a : Nat} {nr t dg bt : Int32} {b : Nat} (ha : h a = some (bO 2 [.int nr, .int t, .int dg, .int bt, .ref b]))  : Ct G 0 0 M_X2_isGuarded [.ref a] h (eQ (some (.int (bi (decide (7 ≤ dg))))) h) := by
  refine ct_intro my_X2_isGuarded (Nat.le_of_ble_eq_true rfl) ?_
  first | refine r_aload_n dX2_isGuarded_0 rfl ?_ | refine r_aload_nq dX2_isGuarded_0 rfl ?_ | refine r_aload_nN dX2_isGuarded_0 rfl ?_
  refine r_getfield 2 2 dX2_isGuarded_1 rfl (Nat.le_of_ble_eq_true rfl) (lkA q211) (Or.inl rfl) (by first | exact Or.inl (by assumption) | assumption | (refine Or.inl ?_; repeat' first | assumption | exact hu_s | refine hu_o (by assumption) ?_ | refine (hu_n (by first | assumption | exact Ne.symm (by assumption) | exact ne_o (by assumption) (by assumption) | exact Ne.symm (ne_o (by assumption) (by assumption)))).trans ?_)) (by rfl) ?_
  refine r_bipush (v := 7) dX2_isGuarded_4 rfl ?_
  refine r_icmp_lt 13 dX2_isGuarded_6 rfl (fun c6 => ?_) (fun c6 => ?_)
  · refine r_iconst (v := 0) dX2_isGuarded_13 rfl ?_
    exact r_ireturn dX2_isGuarded_14 rfl (by first | rfl | exact bi_nar) ⟨congrArg (fun z => some (Value.int z)) (bi_f (decide_eq_false (Int32.not_le.mpr c6))), rfl⟩
  · refine r_iconst (v := 1) dX2_isGuarded_9 rfl ?_
    refine r_goto 14 dX2_isGuarded_10 rfl ?_
    exact r_ireturn dX2_isGuarded_14 rfl (by first | rfl | exact bi_nar) ⟨congrArg (fun z => some (Value.int z)) (bi_t (decide_eq_true (Int32.not_lt.mp c6))), rfl⟩

set_option maxHeartbeats 4000000 in
set_option maxRecDepth 100000 in
theorem sp_X2_listensTo {G : GG} {h : HP} {a : Nat} {nr t dg bt : Int32} {b : Nat} {x : Int32} (ha : h a = some (bO 2 [.int nr, .int t, .int dg, .int bt, .ref b]))  : Ct G 1 0 M_X2_listensTo [.ref a, .int x] h (eQ (some (.int (bi (decide (gSteps nr + 6 ≤ x + t + (if isn dg 0 2 = true then 3 else 0)))))) h) := by
  refine ct_intro my_X2_listensTo (Nat.le_of_ble_eq_true rfl) ?_
  first | refine r_aload_n dX2_listensTo_0 rfl ?_ | refine r_aload_nq dX2_listensTo_0 rfl ?_ | refine r_aload_nN dX2_listensTo_0 rfl ?_
  refine r_getfield 2 2 dX2_listensTo_1 rfl (Nat.le_of_ble_eq_true rfl) (lkA q211) (Or.inl rfl) (by first | exact Or.inl (by assumption) | assumption | (refine Or.inl ?_; repeat' first | assumption | exact hu_s | refine hu_o (by assumption) ?_ | refine (hu_n (by first | assumption | exact Ne.symm (by assumption) | exact ne_o (by assumption) (by assumption) | exact Ne.symm (ne_o (by assumption) (by assumption)))).trans ?_)) (by rfl) ?_
  refine r_iconst (v := 0) dX2_listensTo_4 rfl ?_
  refine r_iconst (v := 2) dX2_listensTo_5 rfl ?_
  refine r_invSN dX2_listensTo_6 (sp_X0_isIn ) rfl mo_X0_isIn (lkT q1334 rfl) (lkA q432) rfl (lkA q64) mp_X0_isIn (Nat.le_of_ble_eq_true rfl) (Nat.le_of_ble_eq_true rfl) (Nat.le_of_ble_eq_true rfl) (kr_e ?_) kx_e
  refine r_if_eq 16 dX2_listensTo_9 rfl (fun c9 => ?_) (fun c9 => ?_)
  · refine r_iconst (v := 0) dX2_listensTo_16 rfl ?_
    refine r_istore_n dX2_listensTo_17 (Nat.le_of_ble_eq_true rfl) ?_
    refine r_iload_n dX2_listensTo_18 rfl ?_
    first | refine r_aload_n dX2_listensTo_19 rfl ?_ | refine r_aload_nq dX2_listensTo_19 rfl ?_ | refine r_aload_nN dX2_listensTo_19 rfl ?_
    refine r_getfield 2 1 dX2_listensTo_20 rfl (Nat.le_of_ble_eq_true rfl) (lkA q209) (Or.inl rfl) (by first | exact Or.inl (by assumption) | assumption | (refine Or.inl ?_; repeat' first | assumption | exact hu_s | refine hu_o (by assumption) ?_ | refine (hu_n (by first | assumption | exact Ne.symm (by assumption) | exact ne_o (by assumption) (by assumption) | exact Ne.symm (ne_o (by assumption) (by assumption)))).trans ?_)) (by rfl) ?_
    refine r_iadd dX2_listensTo_23 ?_
    refine r_iload_n dX2_listensTo_24 rfl ?_
    refine r_iadd dX2_listensTo_25 ?_
    first | refine r_aload_n dX2_listensTo_26 rfl ?_ | refine r_aload_nq dX2_listensTo_26 rfl ?_ | refine r_aload_nN dX2_listensTo_26 rfl ?_
    refine r_invV dX2_listensTo_27 (sp_X2_steps ha) rfl mo_X2_steps (by first | exact Or.inl (by assumption) | assumption | (refine Or.inl ?_; repeat' first | assumption | exact hu_s | refine hu_o (by assumption) ?_ | refine (hu_n (by first | assumption | exact Ne.symm (by assumption) | exact ne_o (by assumption) (by assumption) | exact Ne.symm (ne_o (by assumption) (by assumption)))).trans ?_)) rfl (lkA q1226) (lkA q1227) (lkA q1228) rfl (lkA q71) mp_X2_steps (Nat.le_of_ble_eq_true rfl) (Nat.le_of_ble_eq_true rfl) (Nat.le_of_ble_eq_true rfl) (kr_e ?_) kx_e
    refine r_bipush (v := 6) dX2_listensTo_30 rfl ?_
    refine r_iadd dX2_listensTo_32 ?_
    refine r_icmp_lt 40 dX2_listensTo_33 rfl (fun c33 => ?_) (fun c33 => ?_)
    · refine r_iconst (v := 0) dX2_listensTo_40 rfl ?_
      exact r_ireturn dX2_listensTo_41 rfl (by first | rfl | exact bi_nar) ⟨congrArg (fun z => some (Value.int z)) (bi_f (decide_eq_false (by rw [if_neg (by rw [bi_0.mp c9]; decide)]; exact Int32.not_le.mpr c33))), rfl⟩
    · refine r_iconst (v := 1) dX2_listensTo_36 rfl ?_
      refine r_goto 41 dX2_listensTo_37 rfl ?_
      exact r_ireturn dX2_listensTo_41 rfl (by first | rfl | exact bi_nar) ⟨congrArg (fun z => some (Value.int z)) (bi_t (decide_eq_true (by rw [if_neg (by rw [bi_0.mp c9]; decide)]; exact Int32.not_lt.mp c33))), rfl⟩
  · refine r_iconst (v := 3) dX2_listensTo_12 rfl ?_
    refine r_goto 17 dX2_listensTo_13 rfl ?_
    refine r_istore_n dX2_listensTo_17 (Nat.le_of_ble_eq_true rfl) ?_
    refine r_iload_n dX2_listensTo_18 rfl ?_
    first | refine r_aload_n dX2_listensTo_19 rfl ?_ | refine r_aload_nq dX2_listensTo_19 rfl ?_ | refine r_aload_nN dX2_listensTo_19 rfl ?_
    refine r_getfield 2 1 dX2_listensTo_20 rfl (Nat.le_of_ble_eq_true rfl) (lkA q209) (Or.inl rfl) (by first | exact Or.inl (by assumption) | assumption | (refine Or.inl ?_; repeat' first | assumption | exact hu_s | refine hu_o (by assumption) ?_ | refine (hu_n (by first | assumption | exact Ne.symm (by assumption) | exact ne_o (by assumption) (by assumption) | exact Ne.symm (ne_o (by assumption) (by assumption)))).trans ?_)) (by rfl) ?_
    refine r_iadd dX2_listensTo_23 ?_
    refine r_iload_n dX2_listensTo_24 rfl ?_
    refine r_iadd dX2_listensTo_25 ?_
    first | refine r_aload_n dX2_listensTo_26 rfl ?_ | refine r_aload_nq dX2_listensTo_26 rfl ?_ | refine r_aload_nN dX2_listensTo_26 rfl ?_
    refine r_invV dX2_listensTo_27 (sp_X2_steps ha) rfl mo_X2_steps (by first | exact Or.inl (by assumption) | assumption | (refine Or.inl ?_; repeat' first | assumption | exact hu_s | refine hu_o (by assumption) ?_ | refine (hu_n (by first | assumption | exact Ne.symm (by assumption) | exact ne_o (by assumption) (by assumption) | exact Ne.symm (ne_o (by assumption) (by assumption)))).trans ?_)) rfl (lkA q1226) (lkA q1227) (lkA q1228) rfl (lkA q71) mp_X2_steps (Nat.le_of_ble_eq_true rfl) (Nat.le_of_ble_eq_true rfl) (Nat.le_of_ble_eq_true rfl) (kr_e ?_) kx_e
    refine r_bipush (v := 6) dX2_listensTo_30 rfl ?_
    refine r_iadd dX2_listensTo_32 ?_
    refine r_icmp_lt 40 dX2_listensTo_33 rfl (fun c33 => ?_) (fun c33 => ?_)
    · refine r_iconst (v := 0) dX2_listensTo_40 rfl ?_
      exact r_ireturn dX2_listensTo_41 rfl (by first | rfl | exact bi_nar) ⟨congrArg (fun z => some (Value.int z)) (bi_f (decide_eq_false (by rw [if_pos (bi_n0.mp c9)]; exact Int32.not_le.mpr c33))), rfl⟩
    · refine r_iconst (v := 1) dX2_listensTo_36 rfl ?_
      refine r_goto 41 dX2_listensTo_37 rfl ?_
      exact r_ireturn dX2_listensTo_41 rfl (by first | rfl | exact bi_nar) ⟨congrArg (fun z => some (Value.int z)) (bi_t (decide_eq_true (by rw [if_pos (bi_n0.mp c9)]; exact Int32.not_lt.mp c33))), rfl⟩

set_option maxHeartbeats 4000000 in
set_option maxRecDepth 100000 in
theorem sp_X2_wants {G : GG} {h : HP} (hK : KS G) {a : Nat} {nr t dg bt : Int32} {b : Nat} {x y : Int32} (ha : h a = some (bO 2 [.int nr, .int t, .int dg, .int bt, .ref b])) {wa : Nat} {w : Int32} (hb : h b = some (bBs wa w)) (hwa : h wa = some (bWd w)) (h0 : 0 ≤ w.toInt) (h7 : w.toInt ≤ 7) (k0 : 0 ≤ x.toInt) (k3 : x.toInt ≤ 2) : Ct G 2 0 M_X2_wants [.ref a, .int x, .int y] h (eQ (some (.int (imax 0 (3 - y / 3 + (if w >>> (x &&& 31) &&& 1 = 0 then 1 else 0))))) h) := by
  refine ct_intro my_X2_wants (Nat.le_of_ble_eq_true rfl) ?_
  refine r_iconst (v := 0) dX2_wants_0 rfl ?_
  refine r_iconst (v := 3) dX2_wants_1 rfl ?_
  refine r_iload_n dX2_wants_2 rfl ?_
  refine r_iconst (v := 3) dX2_wants_3 rfl ?_
  refine r_idiv dX2_wants_4 (by decide) ?_
  refine r_isub dX2_wants_5 ?_
  first | refine r_aload_n dX2_wants_6 rfl ?_ | refine r_aload_nq dX2_wants_6 rfl ?_ | refine r_aload_nN dX2_wants_6 rfl ?_
  refine r_getfield 2 4 dX2_wants_7 rfl (Nat.le_of_ble_eq_true rfl) (lkA q214) (Or.inl rfl) (by first | exact Or.inl (by assumption) | assumption | (refine Or.inl ?_; repeat' first | assumption | exact hu_s | refine hu_o (by assumption) ?_ | refine (hu_n (by first | assumption | exact Ne.symm (by assumption) | exact ne_o (by assumption) (by assumption) | exact Ne.symm (ne_o (by assumption) (by assumption)))).trans ?_)) (by rfl) ?_
  refine r_iload_n dX2_wants_10 rfl ?_
  refine r_invV dX2_wants_11 (sp_J5_get hK hb hwa h0 h7 k0 k3) rfl mo_J5_get (by first | exact Or.inl (by assumption) | assumption | (refine Or.inl ?_; repeat' first | assumption | exact hu_s | refine hu_o (by assumption) ?_ | refine (hu_n (by first | assumption | exact Ne.symm (by assumption) | exact ne_o (by assumption) (by assumption) | exact Ne.symm (ne_o (by assumption) (by assumption)))).trans ?_)) rfl (lkA q1339) (lkA q1340) (lkA q1341) rfl (lkA q72) mp_J5_get (Nat.le_of_ble_eq_true rfl) (Nat.le_of_ble_eq_true rfl) (Nat.le_of_ble_eq_true rfl) (kr_e ?_) kx_e
  refine r_if_eq 21 dX2_wants_14 rfl (fun c14 => ?_) (fun c14 => ?_)
  · refine r_iconst (v := 1) dX2_wants_21 rfl ?_
    refine r_iadd dX2_wants_22 ?_
    refine r_mmax dX2_wants_23 (lkA q1343) (lkA q248) (lkA q74) (lkA q249) (Nat.le_of_ble_eq_true rfl) (Nat.le_of_ble_eq_true rfl) ?_
    exact r_ireturn dX2_wants_26 rfl (by first | rfl | exact bi_nar) ⟨by rw [if_pos (Decidable.byContradiction fun e => by rw [if_neg e] at c14; exact absurd c14 (by decide))], rfl⟩
  · refine r_iconst (v := 0) dX2_wants_17 rfl ?_
    refine r_goto 22 dX2_wants_18 rfl ?_
    refine r_iadd dX2_wants_22 ?_
    refine r_mmax dX2_wants_23 (lkA q1343) (lkA q248) (lkA q74) (lkA q249) (Nat.le_of_ble_eq_true rfl) (Nat.le_of_ble_eq_true rfl) ?_
    exact r_ireturn dX2_wants_26 rfl (by first | rfl | exact bi_nar) ⟨by rw [if_neg (by intro e; rw [if_pos e] at c14; exact c14 rfl)], rfl⟩

set_option maxHeartbeats 4000000 in
set_option maxRecDepth 100000 in
theorem sp_X2_pleases {G : GG} {h : HP} {a : Nat} {nr t dg bt : Int32} {b : Nat} {x : Int32} (ha : h a = some (bO 2 [.int nr, .int t, .int dg, .int bt, .ref b]))  : Ct G 1 0 M_X2_pleases [.ref a, .int x] h (eQ none (hu h a (bO 2 [.int nr, .int (imax 0 (imin 9 (t + x))), .int dg, .int bt, .ref b]))) := by
  refine ct_intro my_X2_pleases (Nat.le_of_ble_eq_true rfl) ?_
  first | refine r_aload_n dX2_pleases_0 rfl ?_ | refine r_aload_nq dX2_pleases_0 rfl ?_ | refine r_aload_nN dX2_pleases_0 rfl ?_
  refine r_iconst (v := 0) dX2_pleases_1 rfl ?_
  refine r_bipush (v := 9) dX2_pleases_2 rfl ?_
  first | refine r_aload_n dX2_pleases_4 rfl ?_ | refine r_aload_nq dX2_pleases_4 rfl ?_ | refine r_aload_nN dX2_pleases_4 rfl ?_
  refine r_getfield 2 1 dX2_pleases_5 rfl (Nat.le_of_ble_eq_true rfl) (lkA q209) (Or.inl rfl) (by first | exact Or.inl (by assumption) | assumption | (refine Or.inl ?_; repeat' first | assumption | exact hu_s | refine hu_o (by assumption) ?_ | refine (hu_n (by first | assumption | exact Ne.symm (by assumption) | exact ne_o (by assumption) (by assumption) | exact Ne.symm (ne_o (by assumption) (by assumption)))).trans ?_)) (by rfl) ?_
  refine r_iload_n dX2_pleases_8 rfl ?_
  refine r_iadd dX2_pleases_9 ?_
  refine r_mmin dX2_pleases_10 (lkA q1367) (lkA q290) (lkA q74) (lkA q291) (Nat.le_of_ble_eq_true rfl) (Nat.le_of_ble_eq_true rfl) ?_
  refine r_mmax dX2_pleases_13 (lkA q1343) (lkA q248) (lkA q74) (lkA q249) (Nat.le_of_ble_eq_true rfl) (Nat.le_of_ble_eq_true rfl) ?_
  refine r_put 2 1 dX2_pleases_16 rfl (Nat.le_of_ble_eq_true rfl) (lkA q209) (Or.inl rfl) rfl (by repeat' first | assumption | exact hu_s | refine hu_o (by assumption) ?_ | refine (hu_n (by first | assumption | exact Ne.symm (by assumption) | exact ne_o (by assumption) (by assumption) | exact Ne.symm (ne_o (by assumption) (by assumption)))).trans ?_) (by dsimp only [List.set]) (Nat.le_of_ble_eq_true rfl) rfl rfl (by first | exact hu_hu | exact rfl) ?_
  exact r_return dX2_pleases_19 rfl (by first | exact ⟨rfl, rfl⟩ | rfl)

set_option maxHeartbeats 4000000 in
set_option maxRecDepth 100000 in
theorem sp_X2_buys0 {G : GG} {h : HP} {a : Nat} {x y : Int32} (hy : y ≤ 0) : Ct G 0 0 M_X2_buys [.ref a, .int x, .int y] h (eQ none h) := by
  refine ct_intro my_X2_buys (Nat.le_of_ble_eq_true rfl) ?_
  refine r_iload_n dX2_buys_0 rfl ?_
  refine r_if_le 27 dX2_buys_1 rfl (fun c1 => ?_) (fun c1 => absurd c1 (fun e => e hy))
  exact r_return dX2_buys_27 rfl (by first | exact ⟨rfl, rfl⟩ | rfl)

set_option maxHeartbeats 4000000 in
set_option maxRecDepth 100000 in
theorem sp_X2_buys1 {G : GG} {h : HP} (hK : KS G) {a : Nat} {nr t dg bt : Int32} {b : Nat} {x y : Int32} (ha : h a = some (bO 2 [.int nr, .int t, .int dg, .int bt, .ref b])) {wa : Nat} {w : Int32} (hb : h b = some (bBs wa w)) (hwa : h wa = some (bWd w)) (h0 : 0 ≤ w.toInt) (h7 : w.toInt ≤ 7) (k0 : 0 ≤ x.toInt) (k3 : x.toInt ≤ 2) (hy : ¬ y ≤ 0) (hba : b ≠ a) (hwaa : wa ≠ a) : Ct G 3 0 M_X2_buys [.ref a, .int x, .int y] h (eQ none (hu (hu (hu h b (bO 12 [.ref wa, .int 1, .int 1])) wa (bWd (bset w x))) a (bO 2 [.int nr, .int (imax 0 (imin 9 (t + 1))), .int dg, .int (bt + y), .ref b]))) := by
  refine ct_intro my_X2_buys (Nat.le_of_ble_eq_true rfl) ?_
  refine r_iload_n dX2_buys_0 rfl ?_
  refine r_if_le 27 dX2_buys_1 rfl (fun c1 => absurd c1 hy) (fun c1 => ?_)
  first | refine r_aload_n dX2_buys_4 rfl ?_ | refine r_aload_nq dX2_buys_4 rfl ?_ | refine r_aload_nN dX2_buys_4 rfl ?_
  refine r_dup dX2_buys_5 rfl ?_
  refine r_getfield 2 3 dX2_buys_6 rfl (Nat.le_of_ble_eq_true rfl) (lkA q213) (Or.inl rfl) (by first | exact Or.inl (by assumption) | assumption | (refine Or.inl ?_; repeat' first | assumption | exact hu_s | refine hu_o (by assumption) ?_ | refine (hu_n (by first | assumption | exact Ne.symm (by assumption) | exact ne_o (by assumption) (by assumption) | exact Ne.symm (ne_o (by assumption) (by assumption)))).trans ?_)) (by rfl) ?_
  refine r_iload_n dX2_buys_9 rfl ?_
  refine r_iadd dX2_buys_10 ?_
  refine r_put 2 3 dX2_buys_11 rfl (Nat.le_of_ble_eq_true rfl) (lkA q213) (Or.inl rfl) rfl (by repeat' first | assumption | exact hu_s | refine hu_o (by assumption) ?_ | refine (hu_n (by first | assumption | exact Ne.symm (by assumption) | exact ne_o (by assumption) (by assumption) | exact Ne.symm (ne_o (by assumption) (by assumption)))).trans ?_) (by dsimp only [List.set]) (Nat.le_of_ble_eq_true rfl) rfl rfl (by first | exact hu_hu | exact rfl) ?_
  first | refine r_aload_n dX2_buys_14 rfl ?_ | refine r_aload_nq dX2_buys_14 rfl ?_ | refine r_aload_nN dX2_buys_14 rfl ?_
  refine r_getfield 2 4 dX2_buys_15 rfl (Nat.le_of_ble_eq_true rfl) (lkA q214) (Or.inl rfl) (by first | exact Or.inl (by assumption) | assumption | (refine Or.inl ?_; repeat' first | assumption | exact hu_s | refine hu_o (by assumption) ?_ | refine (hu_n (by first | assumption | exact Ne.symm (by assumption) | exact ne_o (by assumption) (by assumption) | exact Ne.symm (ne_o (by assumption) (by assumption)))).trans ?_)) (by rfl) ?_
  refine r_iload_n dX2_buys_18 rfl ?_
  refine r_invV dX2_buys_19 (sp_J5_set hK ((hu_n hba).trans hb) ((hu_n hwaa).trans hwa) h0 h7 k0 k3) rfl mo_J5_set (Or.inl ((hu_n hba).trans hb)) rfl (lkA q1372) (lkA q1373) (lkA q1374) rfl (lkA q72) mp_J5_set (Nat.le_of_ble_eq_true rfl) (Nat.le_of_ble_eq_true rfl) (Nat.le_of_ble_eq_true rfl) (kr_e ?_) kx_e
  have hA : ∀ u z, hu (hu (hu h a (bO 2 [.int nr, .int t, .int dg, .int (bt + y), .ref b])) b u) wa z a = some (bO 2 [.int nr, .int t, .int dg, .int (bt + y), .ref b]) := fun u z => (hu_n (Ne.symm hwaa)).trans ((hu_n (Ne.symm hba)).trans hu_s)
  first | refine r_aload_n dX2_buys_22 rfl ?_ | refine r_aload_nq dX2_buys_22 rfl ?_ | refine r_aload_nN dX2_buys_22 rfl ?_
  refine r_iconst (v := 1) dX2_buys_23 rfl ?_
  refine r_invV dX2_buys_24 (sp_X2_pleases (hA _ _)) rfl mo_X2_pleases (Or.inl (hA _ _)) rfl (lkA q1380) (lkA q1364) (lkA q1365) rfl (lkA q71) mp_X2_pleases (Nat.le_of_ble_eq_true rfl) (Nat.le_of_ble_eq_true rfl) (Nat.le_of_ble_eq_true rfl) (kr_e ?_) kx_e
  exact r_return dX2_buys_27 rfl ⟨rfl, by rw [hu_c (Ne.symm hba), hu_c (Ne.symm hwaa), hu_hu]⟩

def dgE (dg : Int32) : Int32 := dg + (if dg = -15 then 0 else if dg = 5 then 0 else if 5 < dg then -1 else 1)
def tmE (t : Int32) : Int32 := t + (if t < 5 then 1 else 0)
set_option maxHeartbeats 4000000 in
set_option maxRecDepth 100000 in
theorem sp_X2_dayEnds {G : GG} {h : HP} {a : Nat} {nr t dg bt : Int32} {b : Nat} (ha : h a = some (bO 2 [.int nr, .int t, .int dg, .int bt, .ref b]))  : Ct G 0 0 M_X2_dayEnds [.ref a] h (eQ none (hu h a (bO 2 [.int nr, .int (tmE t), .int (dgE dg), .int bt, .ref b]))) := by
  refine ct_intro my_X2_dayEnds (Nat.le_of_ble_eq_true rfl) ?_
  first | refine r_aload_n dX2_dayEnds_0 rfl ?_ | refine r_aload_nq dX2_dayEnds_0 rfl ?_ | refine r_aload_nN dX2_dayEnds_0 rfl ?_
  refine r_dup dX2_dayEnds_1 rfl ?_
  refine r_getfield 2 2 dX2_dayEnds_2 rfl (Nat.le_of_ble_eq_true rfl) (lkA q211) (Or.inl rfl) (by first | exact Or.inl (by assumption) | assumption | (refine Or.inl ?_; repeat' first | assumption | exact hu_s | refine hu_o (by assumption) ?_ | refine (hu_n (by first | assumption | exact Ne.symm (by assumption) | exact ne_o (by assumption) (by assumption) | exact Ne.symm (ne_o (by assumption) (by assumption)))).trans ?_)) (by rfl) ?_
  first | refine r_aload_n dX2_dayEnds_5 rfl ?_ | refine r_aload_nq dX2_dayEnds_5 rfl ?_ | refine r_aload_nN dX2_dayEnds_5 rfl ?_
  refine r_getfield 2 2 dX2_dayEnds_6 rfl (Nat.le_of_ble_eq_true rfl) (lkA q211) (Or.inl rfl) (by first | exact Or.inl (by assumption) | assumption | (refine Or.inl ?_; repeat' first | assumption | exact hu_s | refine hu_o (by assumption) ?_ | refine (hu_n (by first | assumption | exact Ne.symm (by assumption) | exact ne_o (by assumption) (by assumption) | exact Ne.symm (ne_o (by assumption) (by assumption)))).trans ?_)) (by rfl) ?_
  refine r_bipush (v := (-15)) dX2_dayEnds_9 rfl ?_
  refine r_icmp_eq 22 dX2_dayEnds_11 rfl (fun c11 => ?_) (fun c11 => ?_)
  · refine r_iconst (v := 0) dX2_dayEnds_22 rfl ?_
    refine r_goto 39 dX2_dayEnds_23 rfl ?_
    refine r_iadd dX2_dayEnds_39 ?_
    refine r_put 2 2 dX2_dayEnds_40 rfl (Nat.le_of_ble_eq_true rfl) (lkA q211) (Or.inl rfl) rfl (by repeat' first | assumption | exact hu_s | refine hu_o (by assumption) ?_ | refine (hu_n (by first | assumption | exact Ne.symm (by assumption) | exact ne_o (by assumption) (by assumption) | exact Ne.symm (ne_o (by assumption) (by assumption)))).trans ?_) (by dsimp only [List.set]) (Nat.le_of_ble_eq_true rfl) rfl rfl (by first | exact hu_hu | exact rfl) ?_
    first | refine r_aload_n dX2_dayEnds_43 rfl ?_ | refine r_aload_nq dX2_dayEnds_43 rfl ?_ | refine r_aload_nN dX2_dayEnds_43 rfl ?_
    refine r_dup dX2_dayEnds_44 rfl ?_
    refine r_getfield 2 1 dX2_dayEnds_45 rfl (Nat.le_of_ble_eq_true rfl) (lkA q209) (Or.inl rfl) (by first | exact Or.inl (by assumption) | assumption | (refine Or.inl ?_; repeat' first | assumption | exact hu_s | refine hu_o (by assumption) ?_ | refine (hu_n (by first | assumption | exact Ne.symm (by assumption) | exact ne_o (by assumption) (by assumption) | exact Ne.symm (ne_o (by assumption) (by assumption)))).trans ?_)) (by rfl) ?_
    first | refine r_aload_n dX2_dayEnds_48 rfl ?_ | refine r_aload_nq dX2_dayEnds_48 rfl ?_ | refine r_aload_nN dX2_dayEnds_48 rfl ?_
    refine r_getfield 2 1 dX2_dayEnds_49 rfl (Nat.le_of_ble_eq_true rfl) (lkA q209) (Or.inl rfl) (by first | exact Or.inl (by assumption) | assumption | (refine Or.inl ?_; repeat' first | assumption | exact hu_s | refine hu_o (by assumption) ?_ | refine (hu_n (by first | assumption | exact Ne.symm (by assumption) | exact ne_o (by assumption) (by assumption) | exact Ne.symm (ne_o (by assumption) (by assumption)))).trans ?_)) (by rfl) ?_
    refine r_iconst (v := 5) dX2_dayEnds_52 rfl ?_
    refine r_icmp_ge 60 dX2_dayEnds_53 rfl (fun c53 => ?_) (fun c53 => ?_)
    · refine r_iconst (v := 0) dX2_dayEnds_60 rfl ?_
      refine r_iadd dX2_dayEnds_61 ?_
      refine r_put 2 1 dX2_dayEnds_62 rfl (Nat.le_of_ble_eq_true rfl) (lkA q209) (Or.inl rfl) rfl (by repeat' first | assumption | exact hu_s | refine hu_o (by assumption) ?_ | refine (hu_n (by first | assumption | exact Ne.symm (by assumption) | exact ne_o (by assumption) (by assumption) | exact Ne.symm (ne_o (by assumption) (by assumption)))).trans ?_) (by dsimp only [List.set]) (Nat.le_of_ble_eq_true rfl) rfl rfl (by first | exact hu_hu | exact rfl) ?_
      exact r_return dX2_dayEnds_65 rfl ⟨rfl, by unfold dgE tmE; rw [if_pos c11, if_neg (Int32.not_lt.mpr c53)]⟩
    · refine r_iconst (v := 1) dX2_dayEnds_56 rfl ?_
      refine r_goto 61 dX2_dayEnds_57 rfl ?_
      refine r_iadd dX2_dayEnds_61 ?_
      refine r_put 2 1 dX2_dayEnds_62 rfl (Nat.le_of_ble_eq_true rfl) (lkA q209) (Or.inl rfl) rfl (by repeat' first | assumption | exact hu_s | refine hu_o (by assumption) ?_ | refine (hu_n (by first | assumption | exact Ne.symm (by assumption) | exact ne_o (by assumption) (by assumption) | exact Ne.symm (ne_o (by assumption) (by assumption)))).trans ?_) (by dsimp only [List.set]) (Nat.le_of_ble_eq_true rfl) rfl rfl (by first | exact hu_hu | exact rfl) ?_
      exact r_return dX2_dayEnds_65 rfl ⟨rfl, by unfold dgE tmE; rw [if_pos c11, if_pos (Int32.not_le.mp c53)]⟩
  · first | refine r_aload_n dX2_dayEnds_14 rfl ?_ | refine r_aload_nq dX2_dayEnds_14 rfl ?_ | refine r_aload_nN dX2_dayEnds_14 rfl ?_
    refine r_getfield 2 2 dX2_dayEnds_15 rfl (Nat.le_of_ble_eq_true rfl) (lkA q211) (Or.inl rfl) (by first | exact Or.inl (by assumption) | assumption | (refine Or.inl ?_; repeat' first | assumption | exact hu_s | refine hu_o (by assumption) ?_ | refine (hu_n (by first | assumption | exact Ne.symm (by assumption) | exact ne_o (by assumption) (by assumption) | exact Ne.symm (ne_o (by assumption) (by assumption)))).trans ?_)) (by rfl) ?_
    refine r_iconst (v := 5) dX2_dayEnds_18 rfl ?_
    refine r_icmp_ne 26 dX2_dayEnds_19 rfl (fun c19 => ?_) (fun c19 => ?_)
    · first | refine r_aload_n dX2_dayEnds_26 rfl ?_ | refine r_aload_nq dX2_dayEnds_26 rfl ?_ | refine r_aload_nN dX2_dayEnds_26 rfl ?_
      refine r_getfield 2 2 dX2_dayEnds_27 rfl (Nat.le_of_ble_eq_true rfl) (lkA q211) (Or.inl rfl) (by first | exact Or.inl (by assumption) | assumption | (refine Or.inl ?_; repeat' first | assumption | exact hu_s | refine hu_o (by assumption) ?_ | refine (hu_n (by first | assumption | exact Ne.symm (by assumption) | exact ne_o (by assumption) (by assumption) | exact Ne.symm (ne_o (by assumption) (by assumption)))).trans ?_)) (by rfl) ?_
      refine r_iconst (v := 5) dX2_dayEnds_30 rfl ?_
      refine r_icmp_le 38 dX2_dayEnds_31 rfl (fun c31 => ?_) (fun c31 => ?_)
      · refine r_iconst (v := 1) dX2_dayEnds_38 rfl ?_
        refine r_iadd dX2_dayEnds_39 ?_
        refine r_put 2 2 dX2_dayEnds_40 rfl (Nat.le_of_ble_eq_true rfl) (lkA q211) (Or.inl rfl) rfl (by repeat' first | assumption | exact hu_s | refine hu_o (by assumption) ?_ | refine (hu_n (by first | assumption | exact Ne.symm (by assumption) | exact ne_o (by assumption) (by assumption) | exact Ne.symm (ne_o (by assumption) (by assumption)))).trans ?_) (by dsimp only [List.set]) (Nat.le_of_ble_eq_true rfl) rfl rfl (by first | exact hu_hu | exact rfl) ?_
        first | refine r_aload_n dX2_dayEnds_43 rfl ?_ | refine r_aload_nq dX2_dayEnds_43 rfl ?_ | refine r_aload_nN dX2_dayEnds_43 rfl ?_
        refine r_dup dX2_dayEnds_44 rfl ?_
        refine r_getfield 2 1 dX2_dayEnds_45 rfl (Nat.le_of_ble_eq_true rfl) (lkA q209) (Or.inl rfl) (by first | exact Or.inl (by assumption) | assumption | (refine Or.inl ?_; repeat' first | assumption | exact hu_s | refine hu_o (by assumption) ?_ | refine (hu_n (by first | assumption | exact Ne.symm (by assumption) | exact ne_o (by assumption) (by assumption) | exact Ne.symm (ne_o (by assumption) (by assumption)))).trans ?_)) (by rfl) ?_
        first | refine r_aload_n dX2_dayEnds_48 rfl ?_ | refine r_aload_nq dX2_dayEnds_48 rfl ?_ | refine r_aload_nN dX2_dayEnds_48 rfl ?_
        refine r_getfield 2 1 dX2_dayEnds_49 rfl (Nat.le_of_ble_eq_true rfl) (lkA q209) (Or.inl rfl) (by first | exact Or.inl (by assumption) | assumption | (refine Or.inl ?_; repeat' first | assumption | exact hu_s | refine hu_o (by assumption) ?_ | refine (hu_n (by first | assumption | exact Ne.symm (by assumption) | exact ne_o (by assumption) (by assumption) | exact Ne.symm (ne_o (by assumption) (by assumption)))).trans ?_)) (by rfl) ?_
        refine r_iconst (v := 5) dX2_dayEnds_52 rfl ?_
        refine r_icmp_ge 60 dX2_dayEnds_53 rfl (fun c53 => ?_) (fun c53 => ?_)
        · refine r_iconst (v := 0) dX2_dayEnds_60 rfl ?_
          refine r_iadd dX2_dayEnds_61 ?_
          refine r_put 2 1 dX2_dayEnds_62 rfl (Nat.le_of_ble_eq_true rfl) (lkA q209) (Or.inl rfl) rfl (by repeat' first | assumption | exact hu_s | refine hu_o (by assumption) ?_ | refine (hu_n (by first | assumption | exact Ne.symm (by assumption) | exact ne_o (by assumption) (by assumption) | exact Ne.symm (ne_o (by assumption) (by assumption)))).trans ?_) (by dsimp only [List.set]) (Nat.le_of_ble_eq_true rfl) rfl rfl (by first | exact hu_hu | exact rfl) ?_
          exact r_return dX2_dayEnds_65 rfl ⟨rfl, by unfold dgE tmE; rw [if_neg c11, if_neg c19, if_neg (Int32.not_lt.mpr c31), if_neg (Int32.not_lt.mpr c53)]⟩
        · refine r_iconst (v := 1) dX2_dayEnds_56 rfl ?_
          refine r_goto 61 dX2_dayEnds_57 rfl ?_
          refine r_iadd dX2_dayEnds_61 ?_
          refine r_put 2 1 dX2_dayEnds_62 rfl (Nat.le_of_ble_eq_true rfl) (lkA q209) (Or.inl rfl) rfl (by repeat' first | assumption | exact hu_s | refine hu_o (by assumption) ?_ | refine (hu_n (by first | assumption | exact Ne.symm (by assumption) | exact ne_o (by assumption) (by assumption) | exact Ne.symm (ne_o (by assumption) (by assumption)))).trans ?_) (by dsimp only [List.set]) (Nat.le_of_ble_eq_true rfl) rfl rfl (by first | exact hu_hu | exact rfl) ?_
          exact r_return dX2_dayEnds_65 rfl ⟨rfl, by unfold dgE tmE; rw [if_neg c11, if_neg c19, if_neg (Int32.not_lt.mpr c31), if_pos (Int32.not_le.mp c53)]⟩
      · refine r_iconst (v := (-1)) dX2_dayEnds_34 rfl ?_
        refine r_goto 39 dX2_dayEnds_35 rfl ?_
        refine r_iadd dX2_dayEnds_39 ?_
        refine r_put 2 2 dX2_dayEnds_40 rfl (Nat.le_of_ble_eq_true rfl) (lkA q211) (Or.inl rfl) rfl (by repeat' first | assumption | exact hu_s | refine hu_o (by assumption) ?_ | refine (hu_n (by first | assumption | exact Ne.symm (by assumption) | exact ne_o (by assumption) (by assumption) | exact Ne.symm (ne_o (by assumption) (by assumption)))).trans ?_) (by dsimp only [List.set]) (Nat.le_of_ble_eq_true rfl) rfl rfl (by first | exact hu_hu | exact rfl) ?_
        first | refine r_aload_n dX2_dayEnds_43 rfl ?_ | refine r_aload_nq dX2_dayEnds_43 rfl ?_ | refine r_aload_nN dX2_dayEnds_43 rfl ?_
        refine r_dup dX2_dayEnds_44 rfl ?_
        refine r_getfield 2 1 dX2_dayEnds_45 rfl (Nat.le_of_ble_eq_true rfl) (lkA q209) (Or.inl rfl) (by first | exact Or.inl (by assumption) | assumption | (refine Or.inl ?_; repeat' first | assumption | exact hu_s | refine hu_o (by assumption) ?_ | refine (hu_n (by first | assumption | exact Ne.symm (by assumption) | exact ne_o (by assumption) (by assumption) | exact Ne.symm (ne_o (by assumption) (by assumption)))).trans ?_)) (by rfl) ?_
        first | refine r_aload_n dX2_dayEnds_48 rfl ?_ | refine r_aload_nq dX2_dayEnds_48 rfl ?_ | refine r_aload_nN dX2_dayEnds_48 rfl ?_
        refine r_getfield 2 1 dX2_dayEnds_49 rfl (Nat.le_of_ble_eq_true rfl) (lkA q209) (Or.inl rfl) (by first | exact Or.inl (by assumption) | assumption | (refine Or.inl ?_; repeat' first | assumption | exact hu_s | refine hu_o (by assumption) ?_ | refine (hu_n (by first | assumption | exact Ne.symm (by assumption) | exact ne_o (by assumption) (by assumption) | exact Ne.symm (ne_o (by assumption) (by assumption)))).trans ?_)) (by rfl) ?_
        refine r_iconst (v := 5) dX2_dayEnds_52 rfl ?_
        refine r_icmp_ge 60 dX2_dayEnds_53 rfl (fun c53 => ?_) (fun c53 => ?_)
        · refine r_iconst (v := 0) dX2_dayEnds_60 rfl ?_
          refine r_iadd dX2_dayEnds_61 ?_
          refine r_put 2 1 dX2_dayEnds_62 rfl (Nat.le_of_ble_eq_true rfl) (lkA q209) (Or.inl rfl) rfl (by repeat' first | assumption | exact hu_s | refine hu_o (by assumption) ?_ | refine (hu_n (by first | assumption | exact Ne.symm (by assumption) | exact ne_o (by assumption) (by assumption) | exact Ne.symm (ne_o (by assumption) (by assumption)))).trans ?_) (by dsimp only [List.set]) (Nat.le_of_ble_eq_true rfl) rfl rfl (by first | exact hu_hu | exact rfl) ?_
          exact r_return dX2_dayEnds_65 rfl ⟨rfl, by unfold dgE tmE; rw [if_neg c11, if_neg c19, if_pos (Int32.not_le.mp c31), if_neg (Int32.not_lt.mpr c53)]⟩
        · refine r_iconst (v := 1) dX2_dayEnds_56 rfl ?_
          refine r_goto 61 dX2_dayEnds_57 rfl ?_
          refine r_iadd dX2_dayEnds_61 ?_
          refine r_put 2 1 dX2_dayEnds_62 rfl (Nat.le_of_ble_eq_true rfl) (lkA q209) (Or.inl rfl) rfl (by repeat' first | assumption | exact hu_s | refine hu_o (by assumption) ?_ | refine (hu_n (by first | assumption | exact Ne.symm (by assumption) | exact ne_o (by assumption) (by assumption) | exact Ne.symm (ne_o (by assumption) (by assumption)))).trans ?_) (by dsimp only [List.set]) (Nat.le_of_ble_eq_true rfl) rfl rfl (by first | exact hu_hu | exact rfl) ?_
          exact r_return dX2_dayEnds_65 rfl ⟨rfl, by unfold dgE tmE; rw [if_neg c11, if_neg c19, if_pos (Int32.not_le.mp c31), if_pos (Int32.not_le.mp c53)]⟩
    · refine r_iconst (v := 0) dX2_dayEnds_22 rfl ?_
      refine r_goto 39 dX2_dayEnds_23 rfl ?_
      refine r_iadd dX2_dayEnds_39 ?_
      refine r_put 2 2 dX2_dayEnds_40 rfl (Nat.le_of_ble_eq_true rfl) (lkA q211) (Or.inl rfl) rfl (by repeat' first | assumption | exact hu_s | refine hu_o (by assumption) ?_ | refine (hu_n (by first | assumption | exact Ne.symm (by assumption) | exact ne_o (by assumption) (by assumption) | exact Ne.symm (ne_o (by assumption) (by assumption)))).trans ?_) (by dsimp only [List.set]) (Nat.le_of_ble_eq_true rfl) rfl rfl (by first | exact hu_hu | exact rfl) ?_
      first | refine r_aload_n dX2_dayEnds_43 rfl ?_ | refine r_aload_nq dX2_dayEnds_43 rfl ?_ | refine r_aload_nN dX2_dayEnds_43 rfl ?_
      refine r_dup dX2_dayEnds_44 rfl ?_
      refine r_getfield 2 1 dX2_dayEnds_45 rfl (Nat.le_of_ble_eq_true rfl) (lkA q209) (Or.inl rfl) (by first | exact Or.inl (by assumption) | assumption | (refine Or.inl ?_; repeat' first | assumption | exact hu_s | refine hu_o (by assumption) ?_ | refine (hu_n (by first | assumption | exact Ne.symm (by assumption) | exact ne_o (by assumption) (by assumption) | exact Ne.symm (ne_o (by assumption) (by assumption)))).trans ?_)) (by rfl) ?_
      first | refine r_aload_n dX2_dayEnds_48 rfl ?_ | refine r_aload_nq dX2_dayEnds_48 rfl ?_ | refine r_aload_nN dX2_dayEnds_48 rfl ?_
      refine r_getfield 2 1 dX2_dayEnds_49 rfl (Nat.le_of_ble_eq_true rfl) (lkA q209) (Or.inl rfl) (by first | exact Or.inl (by assumption) | assumption | (refine Or.inl ?_; repeat' first | assumption | exact hu_s | refine hu_o (by assumption) ?_ | refine (hu_n (by first | assumption | exact Ne.symm (by assumption) | exact ne_o (by assumption) (by assumption) | exact Ne.symm (ne_o (by assumption) (by assumption)))).trans ?_)) (by rfl) ?_
      refine r_iconst (v := 5) dX2_dayEnds_52 rfl ?_
      refine r_icmp_ge 60 dX2_dayEnds_53 rfl (fun c53 => ?_) (fun c53 => ?_)
      · refine r_iconst (v := 0) dX2_dayEnds_60 rfl ?_
        refine r_iadd dX2_dayEnds_61 ?_
        refine r_put 2 1 dX2_dayEnds_62 rfl (Nat.le_of_ble_eq_true rfl) (lkA q209) (Or.inl rfl) rfl (by repeat' first | assumption | exact hu_s | refine hu_o (by assumption) ?_ | refine (hu_n (by first | assumption | exact Ne.symm (by assumption) | exact ne_o (by assumption) (by assumption) | exact Ne.symm (ne_o (by assumption) (by assumption)))).trans ?_) (by dsimp only [List.set]) (Nat.le_of_ble_eq_true rfl) rfl rfl (by first | exact hu_hu | exact rfl) ?_
        exact r_return dX2_dayEnds_65 rfl ⟨rfl, by unfold dgE tmE; rw [if_neg c11, if_pos c19, if_neg (Int32.not_lt.mpr c53)]⟩
      · refine r_iconst (v := 1) dX2_dayEnds_56 rfl ?_
        refine r_goto 61 dX2_dayEnds_57 rfl ?_
        refine r_iadd dX2_dayEnds_61 ?_
        refine r_put 2 1 dX2_dayEnds_62 rfl (Nat.le_of_ble_eq_true rfl) (lkA q209) (Or.inl rfl) rfl (by repeat' first | assumption | exact hu_s | refine hu_o (by assumption) ?_ | refine (hu_n (by first | assumption | exact Ne.symm (by assumption) | exact ne_o (by assumption) (by assumption) | exact Ne.symm (ne_o (by assumption) (by assumption)))).trans ?_) (by dsimp only [List.set]) (Nat.le_of_ble_eq_true rfl) rfl rfl (by first | exact hu_hu | exact rfl) ?_
        exact r_return dX2_dayEnds_65 rfl ⟨rfl, by unfold dgE tmE; rw [if_neg c11, if_pos c19, if_pos (Int32.not_le.mp c53)]⟩

set_option maxHeartbeats 4000000 in
set_option maxRecDepth 100000 in
theorem sp_X2_set_0 {G : GG} {h : HP} (hK : KS G) {a : Nat} {nr t dg bt : Int32} {b : Nat} {wa : Nat} (ha : h a = some (bO 2 [.int nr, .int t, .int dg, .int bt, .ref b])) (hb : h b = some (bBs wa 0)) (hwa : h wa = some (bWd 0)) : Ct G 3 0 M_X2_set [.ref a] h (eQ (some (.int 0)) h) := by
  refine ct_intro my_X2_set (Nat.le_of_ble_eq_true rfl) ?_
  refine r_iconst (v := 0) dX2_set_0 rfl ?_
  refine r_istore_n dX2_set_1 (Nat.le_of_ble_eq_true rfl) ?_
  first | refine r_aload_n dX2_set_2 rfl ?_ | refine r_aload_nq dX2_set_2 rfl ?_ | refine r_aload_nN dX2_set_2 rfl ?_
  refine r_getfield 2 4 dX2_set_3 rfl (Nat.le_of_ble_eq_true rfl) (lkA q214) (Or.inl rfl) (by first | exact Or.inl (by assumption) | assumption | (refine Or.inl ?_; repeat' first | assumption | exact hu_s | refine hu_o (by assumption) ?_ | refine (hu_n (by first | assumption | exact Ne.symm (by assumption) | exact ne_o (by assumption) (by assumption) | exact Ne.symm (ne_o (by assumption) (by assumption)))).trans ?_)) (by rfl) ?_
  refine r_iconst (v := 0) dX2_set_6 rfl ?_
  refine r_invV dX2_set_7 (sp_J5_nextSetBit hK hb hwa (by decide) (by decide) (by decide) (by decide)) rfl mo_J5_nextSetBit (by first | exact Or.inl (by assumption) | assumption | (refine Or.inl ?_; repeat' first | assumption | exact hu_s | refine hu_o (by assumption) ?_ | refine (hu_n (by first | assumption | exact Ne.symm (by assumption) | exact ne_o (by assumption) (by assumption) | exact Ne.symm (ne_o (by assumption) (by assumption)))).trans ?_)) rfl (lkA q1234) (lkA q1235) (lkA q1236) rfl (lkA q72) mp_J5_nextSetBit (Nat.le_of_ble_eq_true rfl) (Nat.le_of_ble_eq_true rfl) (Nat.le_of_ble_eq_true rfl) (kr_e ?_) kx_e
  refine r_istore_n dX2_set_10 (Nat.le_of_ble_eq_true rfl) ?_
  refine r_iload_n dX2_set_11 rfl ?_
  refine r_if_lt 35 dX2_set_12 rfl (fun c12 => ?_) (fun c12 => absurd c12 (by decide))
  refine r_iload_n dX2_set_35 rfl ?_
  exact r_ireturn dX2_set_36 rfl (by first | rfl | exact bi_nar) ⟨congrArg (fun z => some (Value.int z)) (by decide), rfl⟩

set_option maxHeartbeats 4000000 in
set_option maxRecDepth 100000 in
theorem sp_X2_set_1 {G : GG} {h : HP} (hK : KS G) {a : Nat} {nr t dg bt : Int32} {b : Nat} {wa : Nat} (ha : h a = some (bO 2 [.int nr, .int t, .int dg, .int bt, .ref b])) (hb : h b = some (bBs wa 1)) (hwa : h wa = some (bWd 1)) : Ct G 3 0 M_X2_set [.ref a] h (eQ (some (.int 1)) h) := by
  refine ct_intro my_X2_set (Nat.le_of_ble_eq_true rfl) ?_
  refine r_iconst (v := 0) dX2_set_0 rfl ?_
  refine r_istore_n dX2_set_1 (Nat.le_of_ble_eq_true rfl) ?_
  first | refine r_aload_n dX2_set_2 rfl ?_ | refine r_aload_nq dX2_set_2 rfl ?_ | refine r_aload_nN dX2_set_2 rfl ?_
  refine r_getfield 2 4 dX2_set_3 rfl (Nat.le_of_ble_eq_true rfl) (lkA q214) (Or.inl rfl) (by first | exact Or.inl (by assumption) | assumption | (refine Or.inl ?_; repeat' first | assumption | exact hu_s | refine hu_o (by assumption) ?_ | refine (hu_n (by first | assumption | exact Ne.symm (by assumption) | exact ne_o (by assumption) (by assumption) | exact Ne.symm (ne_o (by assumption) (by assumption)))).trans ?_)) (by rfl) ?_
  refine r_iconst (v := 0) dX2_set_6 rfl ?_
  refine r_invV dX2_set_7 (sp_J5_nextSetBit hK hb hwa (by decide) (by decide) (by decide) (by decide)) rfl mo_J5_nextSetBit (by first | exact Or.inl (by assumption) | assumption | (refine Or.inl ?_; repeat' first | assumption | exact hu_s | refine hu_o (by assumption) ?_ | refine (hu_n (by first | assumption | exact Ne.symm (by assumption) | exact ne_o (by assumption) (by assumption) | exact Ne.symm (ne_o (by assumption) (by assumption)))).trans ?_)) rfl (lkA q1234) (lkA q1235) (lkA q1236) rfl (lkA q72) mp_J5_nextSetBit (Nat.le_of_ble_eq_true rfl) (Nat.le_of_ble_eq_true rfl) (Nat.le_of_ble_eq_true rfl) (kr_e ?_) kx_e
  refine r_istore_n dX2_set_10 (Nat.le_of_ble_eq_true rfl) ?_
  refine r_iload_n dX2_set_11 rfl ?_
  refine r_if_lt 35 dX2_set_12 rfl (fun c12 => absurd c12 (by decide)) (fun c12 => ?_)
  refine r_iload_n dX2_set_15 rfl ?_
  refine r_iconst (v := 1) dX2_set_16 rfl ?_
  refine r_iload_n dX2_set_17 rfl ?_
  refine r_ishl dX2_set_18 ?_
  refine r_ior dX2_set_19 ?_
  refine r_istore_n dX2_set_20 (Nat.le_of_ble_eq_true rfl) ?_
  first | refine r_aload_n dX2_set_21 rfl ?_ | refine r_aload_nq dX2_set_21 rfl ?_ | refine r_aload_nN dX2_set_21 rfl ?_
  refine r_getfield 2 4 dX2_set_22 rfl (Nat.le_of_ble_eq_true rfl) (lkA q214) (Or.inl rfl) (by first | exact Or.inl (by assumption) | assumption | (refine Or.inl ?_; repeat' first | assumption | exact hu_s | refine hu_o (by assumption) ?_ | refine (hu_n (by first | assumption | exact Ne.symm (by assumption) | exact ne_o (by assumption) (by assumption) | exact Ne.symm (ne_o (by assumption) (by assumption)))).trans ?_)) (by rfl) ?_
  refine r_iload_n dX2_set_25 rfl ?_
  refine r_iconst (v := 1) dX2_set_26 rfl ?_
  refine r_iadd dX2_set_27 ?_
  refine r_invV dX2_set_28 (sp_J5_nextSetBit hK hb hwa (by decide) (by decide) (by decide) (by decide)) rfl mo_J5_nextSetBit (by first | exact Or.inl (by assumption) | assumption | (refine Or.inl ?_; repeat' first | assumption | exact hu_s | refine hu_o (by assumption) ?_ | refine (hu_n (by first | assumption | exact Ne.symm (by assumption) | exact ne_o (by assumption) (by assumption) | exact Ne.symm (ne_o (by assumption) (by assumption)))).trans ?_)) rfl (lkA q1234) (lkA q1235) (lkA q1236) rfl (lkA q72) mp_J5_nextSetBit (Nat.le_of_ble_eq_true rfl) (Nat.le_of_ble_eq_true rfl) (Nat.le_of_ble_eq_true rfl) (kr_e ?_) kx_e
  refine r_istore_n dX2_set_31 (Nat.le_of_ble_eq_true rfl) ?_
  refine r_goto 11 dX2_set_32 rfl ?_
  refine r_iload_n dX2_set_11 rfl ?_
  refine r_if_lt 35 dX2_set_12 rfl (fun c12 => ?_) (fun c12 => absurd c12 (by decide))
  refine r_iload_n dX2_set_35 rfl ?_
  exact r_ireturn dX2_set_36 rfl (by first | rfl | exact bi_nar) ⟨congrArg (fun z => some (Value.int z)) (by decide), rfl⟩

set_option maxHeartbeats 4000000 in
set_option maxRecDepth 100000 in
theorem sp_X2_set_2 {G : GG} {h : HP} (hK : KS G) {a : Nat} {nr t dg bt : Int32} {b : Nat} {wa : Nat} (ha : h a = some (bO 2 [.int nr, .int t, .int dg, .int bt, .ref b])) (hb : h b = some (bBs wa 2)) (hwa : h wa = some (bWd 2)) : Ct G 3 0 M_X2_set [.ref a] h (eQ (some (.int 2)) h) := by
  refine ct_intro my_X2_set (Nat.le_of_ble_eq_true rfl) ?_
  refine r_iconst (v := 0) dX2_set_0 rfl ?_
  refine r_istore_n dX2_set_1 (Nat.le_of_ble_eq_true rfl) ?_
  first | refine r_aload_n dX2_set_2 rfl ?_ | refine r_aload_nq dX2_set_2 rfl ?_ | refine r_aload_nN dX2_set_2 rfl ?_
  refine r_getfield 2 4 dX2_set_3 rfl (Nat.le_of_ble_eq_true rfl) (lkA q214) (Or.inl rfl) (by first | exact Or.inl (by assumption) | assumption | (refine Or.inl ?_; repeat' first | assumption | exact hu_s | refine hu_o (by assumption) ?_ | refine (hu_n (by first | assumption | exact Ne.symm (by assumption) | exact ne_o (by assumption) (by assumption) | exact Ne.symm (ne_o (by assumption) (by assumption)))).trans ?_)) (by rfl) ?_
  refine r_iconst (v := 0) dX2_set_6 rfl ?_
  refine r_invV dX2_set_7 (sp_J5_nextSetBit hK hb hwa (by decide) (by decide) (by decide) (by decide)) rfl mo_J5_nextSetBit (by first | exact Or.inl (by assumption) | assumption | (refine Or.inl ?_; repeat' first | assumption | exact hu_s | refine hu_o (by assumption) ?_ | refine (hu_n (by first | assumption | exact Ne.symm (by assumption) | exact ne_o (by assumption) (by assumption) | exact Ne.symm (ne_o (by assumption) (by assumption)))).trans ?_)) rfl (lkA q1234) (lkA q1235) (lkA q1236) rfl (lkA q72) mp_J5_nextSetBit (Nat.le_of_ble_eq_true rfl) (Nat.le_of_ble_eq_true rfl) (Nat.le_of_ble_eq_true rfl) (kr_e ?_) kx_e
  refine r_istore_n dX2_set_10 (Nat.le_of_ble_eq_true rfl) ?_
  refine r_iload_n dX2_set_11 rfl ?_
  refine r_if_lt 35 dX2_set_12 rfl (fun c12 => absurd c12 (by decide)) (fun c12 => ?_)
  refine r_iload_n dX2_set_15 rfl ?_
  refine r_iconst (v := 1) dX2_set_16 rfl ?_
  refine r_iload_n dX2_set_17 rfl ?_
  refine r_ishl dX2_set_18 ?_
  refine r_ior dX2_set_19 ?_
  refine r_istore_n dX2_set_20 (Nat.le_of_ble_eq_true rfl) ?_
  first | refine r_aload_n dX2_set_21 rfl ?_ | refine r_aload_nq dX2_set_21 rfl ?_ | refine r_aload_nN dX2_set_21 rfl ?_
  refine r_getfield 2 4 dX2_set_22 rfl (Nat.le_of_ble_eq_true rfl) (lkA q214) (Or.inl rfl) (by first | exact Or.inl (by assumption) | assumption | (refine Or.inl ?_; repeat' first | assumption | exact hu_s | refine hu_o (by assumption) ?_ | refine (hu_n (by first | assumption | exact Ne.symm (by assumption) | exact ne_o (by assumption) (by assumption) | exact Ne.symm (ne_o (by assumption) (by assumption)))).trans ?_)) (by rfl) ?_
  refine r_iload_n dX2_set_25 rfl ?_
  refine r_iconst (v := 1) dX2_set_26 rfl ?_
  refine r_iadd dX2_set_27 ?_
  refine r_invV dX2_set_28 (sp_J5_nextSetBit hK hb hwa (by decide) (by decide) (by decide) (by decide)) rfl mo_J5_nextSetBit (by first | exact Or.inl (by assumption) | assumption | (refine Or.inl ?_; repeat' first | assumption | exact hu_s | refine hu_o (by assumption) ?_ | refine (hu_n (by first | assumption | exact Ne.symm (by assumption) | exact ne_o (by assumption) (by assumption) | exact Ne.symm (ne_o (by assumption) (by assumption)))).trans ?_)) rfl (lkA q1234) (lkA q1235) (lkA q1236) rfl (lkA q72) mp_J5_nextSetBit (Nat.le_of_ble_eq_true rfl) (Nat.le_of_ble_eq_true rfl) (Nat.le_of_ble_eq_true rfl) (kr_e ?_) kx_e
  refine r_istore_n dX2_set_31 (Nat.le_of_ble_eq_true rfl) ?_
  refine r_goto 11 dX2_set_32 rfl ?_
  refine r_iload_n dX2_set_11 rfl ?_
  refine r_if_lt 35 dX2_set_12 rfl (fun c12 => ?_) (fun c12 => absurd c12 (by decide))
  refine r_iload_n dX2_set_35 rfl ?_
  exact r_ireturn dX2_set_36 rfl (by first | rfl | exact bi_nar) ⟨congrArg (fun z => some (Value.int z)) (by decide), rfl⟩

set_option maxHeartbeats 4000000 in
set_option maxRecDepth 100000 in
theorem sp_X2_set_3 {G : GG} {h : HP} (hK : KS G) {a : Nat} {nr t dg bt : Int32} {b : Nat} {wa : Nat} (ha : h a = some (bO 2 [.int nr, .int t, .int dg, .int bt, .ref b])) (hb : h b = some (bBs wa 3)) (hwa : h wa = some (bWd 3)) : Ct G 3 0 M_X2_set [.ref a] h (eQ (some (.int 3)) h) := by
  refine ct_intro my_X2_set (Nat.le_of_ble_eq_true rfl) ?_
  refine r_iconst (v := 0) dX2_set_0 rfl ?_
  refine r_istore_n dX2_set_1 (Nat.le_of_ble_eq_true rfl) ?_
  first | refine r_aload_n dX2_set_2 rfl ?_ | refine r_aload_nq dX2_set_2 rfl ?_ | refine r_aload_nN dX2_set_2 rfl ?_
  refine r_getfield 2 4 dX2_set_3 rfl (Nat.le_of_ble_eq_true rfl) (lkA q214) (Or.inl rfl) (by first | exact Or.inl (by assumption) | assumption | (refine Or.inl ?_; repeat' first | assumption | exact hu_s | refine hu_o (by assumption) ?_ | refine (hu_n (by first | assumption | exact Ne.symm (by assumption) | exact ne_o (by assumption) (by assumption) | exact Ne.symm (ne_o (by assumption) (by assumption)))).trans ?_)) (by rfl) ?_
  refine r_iconst (v := 0) dX2_set_6 rfl ?_
  refine r_invV dX2_set_7 (sp_J5_nextSetBit hK hb hwa (by decide) (by decide) (by decide) (by decide)) rfl mo_J5_nextSetBit (by first | exact Or.inl (by assumption) | assumption | (refine Or.inl ?_; repeat' first | assumption | exact hu_s | refine hu_o (by assumption) ?_ | refine (hu_n (by first | assumption | exact Ne.symm (by assumption) | exact ne_o (by assumption) (by assumption) | exact Ne.symm (ne_o (by assumption) (by assumption)))).trans ?_)) rfl (lkA q1234) (lkA q1235) (lkA q1236) rfl (lkA q72) mp_J5_nextSetBit (Nat.le_of_ble_eq_true rfl) (Nat.le_of_ble_eq_true rfl) (Nat.le_of_ble_eq_true rfl) (kr_e ?_) kx_e
  refine r_istore_n dX2_set_10 (Nat.le_of_ble_eq_true rfl) ?_
  refine r_iload_n dX2_set_11 rfl ?_
  refine r_if_lt 35 dX2_set_12 rfl (fun c12 => absurd c12 (by decide)) (fun c12 => ?_)
  refine r_iload_n dX2_set_15 rfl ?_
  refine r_iconst (v := 1) dX2_set_16 rfl ?_
  refine r_iload_n dX2_set_17 rfl ?_
  refine r_ishl dX2_set_18 ?_
  refine r_ior dX2_set_19 ?_
  refine r_istore_n dX2_set_20 (Nat.le_of_ble_eq_true rfl) ?_
  first | refine r_aload_n dX2_set_21 rfl ?_ | refine r_aload_nq dX2_set_21 rfl ?_ | refine r_aload_nN dX2_set_21 rfl ?_
  refine r_getfield 2 4 dX2_set_22 rfl (Nat.le_of_ble_eq_true rfl) (lkA q214) (Or.inl rfl) (by first | exact Or.inl (by assumption) | assumption | (refine Or.inl ?_; repeat' first | assumption | exact hu_s | refine hu_o (by assumption) ?_ | refine (hu_n (by first | assumption | exact Ne.symm (by assumption) | exact ne_o (by assumption) (by assumption) | exact Ne.symm (ne_o (by assumption) (by assumption)))).trans ?_)) (by rfl) ?_
  refine r_iload_n dX2_set_25 rfl ?_
  refine r_iconst (v := 1) dX2_set_26 rfl ?_
  refine r_iadd dX2_set_27 ?_
  refine r_invV dX2_set_28 (sp_J5_nextSetBit hK hb hwa (by decide) (by decide) (by decide) (by decide)) rfl mo_J5_nextSetBit (by first | exact Or.inl (by assumption) | assumption | (refine Or.inl ?_; repeat' first | assumption | exact hu_s | refine hu_o (by assumption) ?_ | refine (hu_n (by first | assumption | exact Ne.symm (by assumption) | exact ne_o (by assumption) (by assumption) | exact Ne.symm (ne_o (by assumption) (by assumption)))).trans ?_)) rfl (lkA q1234) (lkA q1235) (lkA q1236) rfl (lkA q72) mp_J5_nextSetBit (Nat.le_of_ble_eq_true rfl) (Nat.le_of_ble_eq_true rfl) (Nat.le_of_ble_eq_true rfl) (kr_e ?_) kx_e
  refine r_istore_n dX2_set_31 (Nat.le_of_ble_eq_true rfl) ?_
  refine r_goto 11 dX2_set_32 rfl ?_
  refine r_iload_n dX2_set_11 rfl ?_
  refine r_if_lt 35 dX2_set_12 rfl (fun c12 => absurd c12 (by decide)) (fun c12 => ?_)
  refine r_iload_n dX2_set_15 rfl ?_
  refine r_iconst (v := 1) dX2_set_16 rfl ?_
  refine r_iload_n dX2_set_17 rfl ?_
  refine r_ishl dX2_set_18 ?_
  refine r_ior dX2_set_19 ?_
  refine r_istore_n dX2_set_20 (Nat.le_of_ble_eq_true rfl) ?_
  first | refine r_aload_n dX2_set_21 rfl ?_ | refine r_aload_nq dX2_set_21 rfl ?_ | refine r_aload_nN dX2_set_21 rfl ?_
  refine r_getfield 2 4 dX2_set_22 rfl (Nat.le_of_ble_eq_true rfl) (lkA q214) (Or.inl rfl) (by first | exact Or.inl (by assumption) | assumption | (refine Or.inl ?_; repeat' first | assumption | exact hu_s | refine hu_o (by assumption) ?_ | refine (hu_n (by first | assumption | exact Ne.symm (by assumption) | exact ne_o (by assumption) (by assumption) | exact Ne.symm (ne_o (by assumption) (by assumption)))).trans ?_)) (by rfl) ?_
  refine r_iload_n dX2_set_25 rfl ?_
  refine r_iconst (v := 1) dX2_set_26 rfl ?_
  refine r_iadd dX2_set_27 ?_
  refine r_invV dX2_set_28 (sp_J5_nextSetBit hK hb hwa (by decide) (by decide) (by decide) (by decide)) rfl mo_J5_nextSetBit (by first | exact Or.inl (by assumption) | assumption | (refine Or.inl ?_; repeat' first | assumption | exact hu_s | refine hu_o (by assumption) ?_ | refine (hu_n (by first | assumption | exact Ne.symm (by assumption) | exact ne_o (by assumption) (by assumption) | exact Ne.symm (ne_o (by assumption) (by assumption)))).trans ?_)) rfl (lkA q1234) (lkA q1235) (lkA q1236) rfl (lkA q72) mp_J5_nextSetBit (Nat.le_of_ble_eq_true rfl) (Nat.le_of_ble_eq_true rfl) (Nat.le_of_ble_eq_true rfl) (kr_e ?_) kx_e
  refine r_istore_n dX2_set_31 (Nat.le_of_ble_eq_true rfl) ?_
  refine r_goto 11 dX2_set_32 rfl ?_
  refine r_iload_n dX2_set_11 rfl ?_
  refine r_if_lt 35 dX2_set_12 rfl (fun c12 => ?_) (fun c12 => absurd c12 (by decide))
  refine r_iload_n dX2_set_35 rfl ?_
  exact r_ireturn dX2_set_36 rfl (by first | rfl | exact bi_nar) ⟨congrArg (fun z => some (Value.int z)) (by decide), rfl⟩

set_option maxHeartbeats 4000000 in
set_option maxRecDepth 100000 in
theorem sp_X2_set_4 {G : GG} {h : HP} (hK : KS G) {a : Nat} {nr t dg bt : Int32} {b : Nat} {wa : Nat} (ha : h a = some (bO 2 [.int nr, .int t, .int dg, .int bt, .ref b])) (hb : h b = some (bBs wa 4)) (hwa : h wa = some (bWd 4)) : Ct G 3 0 M_X2_set [.ref a] h (eQ (some (.int 4)) h) := by
  refine ct_intro my_X2_set (Nat.le_of_ble_eq_true rfl) ?_
  refine r_iconst (v := 0) dX2_set_0 rfl ?_
  refine r_istore_n dX2_set_1 (Nat.le_of_ble_eq_true rfl) ?_
  first | refine r_aload_n dX2_set_2 rfl ?_ | refine r_aload_nq dX2_set_2 rfl ?_ | refine r_aload_nN dX2_set_2 rfl ?_
  refine r_getfield 2 4 dX2_set_3 rfl (Nat.le_of_ble_eq_true rfl) (lkA q214) (Or.inl rfl) (by first | exact Or.inl (by assumption) | assumption | (refine Or.inl ?_; repeat' first | assumption | exact hu_s | refine hu_o (by assumption) ?_ | refine (hu_n (by first | assumption | exact Ne.symm (by assumption) | exact ne_o (by assumption) (by assumption) | exact Ne.symm (ne_o (by assumption) (by assumption)))).trans ?_)) (by rfl) ?_
  refine r_iconst (v := 0) dX2_set_6 rfl ?_
  refine r_invV dX2_set_7 (sp_J5_nextSetBit hK hb hwa (by decide) (by decide) (by decide) (by decide)) rfl mo_J5_nextSetBit (by first | exact Or.inl (by assumption) | assumption | (refine Or.inl ?_; repeat' first | assumption | exact hu_s | refine hu_o (by assumption) ?_ | refine (hu_n (by first | assumption | exact Ne.symm (by assumption) | exact ne_o (by assumption) (by assumption) | exact Ne.symm (ne_o (by assumption) (by assumption)))).trans ?_)) rfl (lkA q1234) (lkA q1235) (lkA q1236) rfl (lkA q72) mp_J5_nextSetBit (Nat.le_of_ble_eq_true rfl) (Nat.le_of_ble_eq_true rfl) (Nat.le_of_ble_eq_true rfl) (kr_e ?_) kx_e
  refine r_istore_n dX2_set_10 (Nat.le_of_ble_eq_true rfl) ?_
  refine r_iload_n dX2_set_11 rfl ?_
  refine r_if_lt 35 dX2_set_12 rfl (fun c12 => absurd c12 (by decide)) (fun c12 => ?_)
  refine r_iload_n dX2_set_15 rfl ?_
  refine r_iconst (v := 1) dX2_set_16 rfl ?_
  refine r_iload_n dX2_set_17 rfl ?_
  refine r_ishl dX2_set_18 ?_
  refine r_ior dX2_set_19 ?_
  refine r_istore_n dX2_set_20 (Nat.le_of_ble_eq_true rfl) ?_
  first | refine r_aload_n dX2_set_21 rfl ?_ | refine r_aload_nq dX2_set_21 rfl ?_ | refine r_aload_nN dX2_set_21 rfl ?_
  refine r_getfield 2 4 dX2_set_22 rfl (Nat.le_of_ble_eq_true rfl) (lkA q214) (Or.inl rfl) (by first | exact Or.inl (by assumption) | assumption | (refine Or.inl ?_; repeat' first | assumption | exact hu_s | refine hu_o (by assumption) ?_ | refine (hu_n (by first | assumption | exact Ne.symm (by assumption) | exact ne_o (by assumption) (by assumption) | exact Ne.symm (ne_o (by assumption) (by assumption)))).trans ?_)) (by rfl) ?_
  refine r_iload_n dX2_set_25 rfl ?_
  refine r_iconst (v := 1) dX2_set_26 rfl ?_
  refine r_iadd dX2_set_27 ?_
  refine r_invV dX2_set_28 (sp_J5_nextSetBit hK hb hwa (by decide) (by decide) (by decide) (by decide)) rfl mo_J5_nextSetBit (by first | exact Or.inl (by assumption) | assumption | (refine Or.inl ?_; repeat' first | assumption | exact hu_s | refine hu_o (by assumption) ?_ | refine (hu_n (by first | assumption | exact Ne.symm (by assumption) | exact ne_o (by assumption) (by assumption) | exact Ne.symm (ne_o (by assumption) (by assumption)))).trans ?_)) rfl (lkA q1234) (lkA q1235) (lkA q1236) rfl (lkA q72) mp_J5_nextSetBit (Nat.le_of_ble_eq_true rfl) (Nat.le_of_ble_eq_true rfl) (Nat.le_of_ble_eq_true rfl) (kr_e ?_) kx_e
  refine r_istore_n dX2_set_31 (Nat.le_of_ble_eq_true rfl) ?_
  refine r_goto 11 dX2_set_32 rfl ?_
  refine r_iload_n dX2_set_11 rfl ?_
  refine r_if_lt 35 dX2_set_12 rfl (fun c12 => ?_) (fun c12 => absurd c12 (by decide))
  refine r_iload_n dX2_set_35 rfl ?_
  exact r_ireturn dX2_set_36 rfl (by first | rfl | exact bi_nar) ⟨congrArg (fun z => some (Value.int z)) (by decide), rfl⟩

set_option maxHeartbeats 4000000 in
set_option maxRecDepth 100000 in
theorem sp_X2_set_5 {G : GG} {h : HP} (hK : KS G) {a : Nat} {nr t dg bt : Int32} {b : Nat} {wa : Nat} (ha : h a = some (bO 2 [.int nr, .int t, .int dg, .int bt, .ref b])) (hb : h b = some (bBs wa 5)) (hwa : h wa = some (bWd 5)) : Ct G 3 0 M_X2_set [.ref a] h (eQ (some (.int 5)) h) := by
  refine ct_intro my_X2_set (Nat.le_of_ble_eq_true rfl) ?_
  refine r_iconst (v := 0) dX2_set_0 rfl ?_
  refine r_istore_n dX2_set_1 (Nat.le_of_ble_eq_true rfl) ?_
  first | refine r_aload_n dX2_set_2 rfl ?_ | refine r_aload_nq dX2_set_2 rfl ?_ | refine r_aload_nN dX2_set_2 rfl ?_
  refine r_getfield 2 4 dX2_set_3 rfl (Nat.le_of_ble_eq_true rfl) (lkA q214) (Or.inl rfl) (by first | exact Or.inl (by assumption) | assumption | (refine Or.inl ?_; repeat' first | assumption | exact hu_s | refine hu_o (by assumption) ?_ | refine (hu_n (by first | assumption | exact Ne.symm (by assumption) | exact ne_o (by assumption) (by assumption) | exact Ne.symm (ne_o (by assumption) (by assumption)))).trans ?_)) (by rfl) ?_
  refine r_iconst (v := 0) dX2_set_6 rfl ?_
  refine r_invV dX2_set_7 (sp_J5_nextSetBit hK hb hwa (by decide) (by decide) (by decide) (by decide)) rfl mo_J5_nextSetBit (by first | exact Or.inl (by assumption) | assumption | (refine Or.inl ?_; repeat' first | assumption | exact hu_s | refine hu_o (by assumption) ?_ | refine (hu_n (by first | assumption | exact Ne.symm (by assumption) | exact ne_o (by assumption) (by assumption) | exact Ne.symm (ne_o (by assumption) (by assumption)))).trans ?_)) rfl (lkA q1234) (lkA q1235) (lkA q1236) rfl (lkA q72) mp_J5_nextSetBit (Nat.le_of_ble_eq_true rfl) (Nat.le_of_ble_eq_true rfl) (Nat.le_of_ble_eq_true rfl) (kr_e ?_) kx_e
  refine r_istore_n dX2_set_10 (Nat.le_of_ble_eq_true rfl) ?_
  refine r_iload_n dX2_set_11 rfl ?_
  refine r_if_lt 35 dX2_set_12 rfl (fun c12 => absurd c12 (by decide)) (fun c12 => ?_)
  refine r_iload_n dX2_set_15 rfl ?_
  refine r_iconst (v := 1) dX2_set_16 rfl ?_
  refine r_iload_n dX2_set_17 rfl ?_
  refine r_ishl dX2_set_18 ?_
  refine r_ior dX2_set_19 ?_
  refine r_istore_n dX2_set_20 (Nat.le_of_ble_eq_true rfl) ?_
  first | refine r_aload_n dX2_set_21 rfl ?_ | refine r_aload_nq dX2_set_21 rfl ?_ | refine r_aload_nN dX2_set_21 rfl ?_
  refine r_getfield 2 4 dX2_set_22 rfl (Nat.le_of_ble_eq_true rfl) (lkA q214) (Or.inl rfl) (by first | exact Or.inl (by assumption) | assumption | (refine Or.inl ?_; repeat' first | assumption | exact hu_s | refine hu_o (by assumption) ?_ | refine (hu_n (by first | assumption | exact Ne.symm (by assumption) | exact ne_o (by assumption) (by assumption) | exact Ne.symm (ne_o (by assumption) (by assumption)))).trans ?_)) (by rfl) ?_
  refine r_iload_n dX2_set_25 rfl ?_
  refine r_iconst (v := 1) dX2_set_26 rfl ?_
  refine r_iadd dX2_set_27 ?_
  refine r_invV dX2_set_28 (sp_J5_nextSetBit hK hb hwa (by decide) (by decide) (by decide) (by decide)) rfl mo_J5_nextSetBit (by first | exact Or.inl (by assumption) | assumption | (refine Or.inl ?_; repeat' first | assumption | exact hu_s | refine hu_o (by assumption) ?_ | refine (hu_n (by first | assumption | exact Ne.symm (by assumption) | exact ne_o (by assumption) (by assumption) | exact Ne.symm (ne_o (by assumption) (by assumption)))).trans ?_)) rfl (lkA q1234) (lkA q1235) (lkA q1236) rfl (lkA q72) mp_J5_nextSetBit (Nat.le_of_ble_eq_true rfl) (Nat.le_of_ble_eq_true rfl) (Nat.le_of_ble_eq_true rfl) (kr_e ?_) kx_e
  refine r_istore_n dX2_set_31 (Nat.le_of_ble_eq_true rfl) ?_
  refine r_goto 11 dX2_set_32 rfl ?_
  refine r_iload_n dX2_set_11 rfl ?_
  refine r_if_lt 35 dX2_set_12 rfl (fun c12 => absurd c12 (by decide)) (fun c12 => ?_)
  refine r_iload_n dX2_set_15 rfl ?_
  refine r_iconst (v := 1) dX2_set_16 rfl ?_
  refine r_iload_n dX2_set_17 rfl ?_
  refine r_ishl dX2_set_18 ?_
  refine r_ior dX2_set_19 ?_
  refine r_istore_n dX2_set_20 (Nat.le_of_ble_eq_true rfl) ?_
  first | refine r_aload_n dX2_set_21 rfl ?_ | refine r_aload_nq dX2_set_21 rfl ?_ | refine r_aload_nN dX2_set_21 rfl ?_
  refine r_getfield 2 4 dX2_set_22 rfl (Nat.le_of_ble_eq_true rfl) (lkA q214) (Or.inl rfl) (by first | exact Or.inl (by assumption) | assumption | (refine Or.inl ?_; repeat' first | assumption | exact hu_s | refine hu_o (by assumption) ?_ | refine (hu_n (by first | assumption | exact Ne.symm (by assumption) | exact ne_o (by assumption) (by assumption) | exact Ne.symm (ne_o (by assumption) (by assumption)))).trans ?_)) (by rfl) ?_
  refine r_iload_n dX2_set_25 rfl ?_
  refine r_iconst (v := 1) dX2_set_26 rfl ?_
  refine r_iadd dX2_set_27 ?_
  refine r_invV dX2_set_28 (sp_J5_nextSetBit hK hb hwa (by decide) (by decide) (by decide) (by decide)) rfl mo_J5_nextSetBit (by first | exact Or.inl (by assumption) | assumption | (refine Or.inl ?_; repeat' first | assumption | exact hu_s | refine hu_o (by assumption) ?_ | refine (hu_n (by first | assumption | exact Ne.symm (by assumption) | exact ne_o (by assumption) (by assumption) | exact Ne.symm (ne_o (by assumption) (by assumption)))).trans ?_)) rfl (lkA q1234) (lkA q1235) (lkA q1236) rfl (lkA q72) mp_J5_nextSetBit (Nat.le_of_ble_eq_true rfl) (Nat.le_of_ble_eq_true rfl) (Nat.le_of_ble_eq_true rfl) (kr_e ?_) kx_e
  refine r_istore_n dX2_set_31 (Nat.le_of_ble_eq_true rfl) ?_
  refine r_goto 11 dX2_set_32 rfl ?_
  refine r_iload_n dX2_set_11 rfl ?_
  refine r_if_lt 35 dX2_set_12 rfl (fun c12 => ?_) (fun c12 => absurd c12 (by decide))
  refine r_iload_n dX2_set_35 rfl ?_
  exact r_ireturn dX2_set_36 rfl (by first | rfl | exact bi_nar) ⟨congrArg (fun z => some (Value.int z)) (by decide), rfl⟩

set_option maxHeartbeats 4000000 in
set_option maxRecDepth 100000 in
theorem sp_X2_set_6 {G : GG} {h : HP} (hK : KS G) {a : Nat} {nr t dg bt : Int32} {b : Nat} {wa : Nat} (ha : h a = some (bO 2 [.int nr, .int t, .int dg, .int bt, .ref b])) (hb : h b = some (bBs wa 6)) (hwa : h wa = some (bWd 6)) : Ct G 3 0 M_X2_set [.ref a] h (eQ (some (.int 6)) h) := by
  refine ct_intro my_X2_set (Nat.le_of_ble_eq_true rfl) ?_
  refine r_iconst (v := 0) dX2_set_0 rfl ?_
  refine r_istore_n dX2_set_1 (Nat.le_of_ble_eq_true rfl) ?_
  first | refine r_aload_n dX2_set_2 rfl ?_ | refine r_aload_nq dX2_set_2 rfl ?_ | refine r_aload_nN dX2_set_2 rfl ?_
  refine r_getfield 2 4 dX2_set_3 rfl (Nat.le_of_ble_eq_true rfl) (lkA q214) (Or.inl rfl) (by first | exact Or.inl (by assumption) | assumption | (refine Or.inl ?_; repeat' first | assumption | exact hu_s | refine hu_o (by assumption) ?_ | refine (hu_n (by first | assumption | exact Ne.symm (by assumption) | exact ne_o (by assumption) (by assumption) | exact Ne.symm (ne_o (by assumption) (by assumption)))).trans ?_)) (by rfl) ?_
  refine r_iconst (v := 0) dX2_set_6 rfl ?_
  refine r_invV dX2_set_7 (sp_J5_nextSetBit hK hb hwa (by decide) (by decide) (by decide) (by decide)) rfl mo_J5_nextSetBit (by first | exact Or.inl (by assumption) | assumption | (refine Or.inl ?_; repeat' first | assumption | exact hu_s | refine hu_o (by assumption) ?_ | refine (hu_n (by first | assumption | exact Ne.symm (by assumption) | exact ne_o (by assumption) (by assumption) | exact Ne.symm (ne_o (by assumption) (by assumption)))).trans ?_)) rfl (lkA q1234) (lkA q1235) (lkA q1236) rfl (lkA q72) mp_J5_nextSetBit (Nat.le_of_ble_eq_true rfl) (Nat.le_of_ble_eq_true rfl) (Nat.le_of_ble_eq_true rfl) (kr_e ?_) kx_e
  refine r_istore_n dX2_set_10 (Nat.le_of_ble_eq_true rfl) ?_
  refine r_iload_n dX2_set_11 rfl ?_
  refine r_if_lt 35 dX2_set_12 rfl (fun c12 => absurd c12 (by decide)) (fun c12 => ?_)
  refine r_iload_n dX2_set_15 rfl ?_
  refine r_iconst (v := 1) dX2_set_16 rfl ?_
  refine r_iload_n dX2_set_17 rfl ?_
  refine r_ishl dX2_set_18 ?_
  refine r_ior dX2_set_19 ?_
  refine r_istore_n dX2_set_20 (Nat.le_of_ble_eq_true rfl) ?_
  first | refine r_aload_n dX2_set_21 rfl ?_ | refine r_aload_nq dX2_set_21 rfl ?_ | refine r_aload_nN dX2_set_21 rfl ?_
  refine r_getfield 2 4 dX2_set_22 rfl (Nat.le_of_ble_eq_true rfl) (lkA q214) (Or.inl rfl) (by first | exact Or.inl (by assumption) | assumption | (refine Or.inl ?_; repeat' first | assumption | exact hu_s | refine hu_o (by assumption) ?_ | refine (hu_n (by first | assumption | exact Ne.symm (by assumption) | exact ne_o (by assumption) (by assumption) | exact Ne.symm (ne_o (by assumption) (by assumption)))).trans ?_)) (by rfl) ?_
  refine r_iload_n dX2_set_25 rfl ?_
  refine r_iconst (v := 1) dX2_set_26 rfl ?_
  refine r_iadd dX2_set_27 ?_
  refine r_invV dX2_set_28 (sp_J5_nextSetBit hK hb hwa (by decide) (by decide) (by decide) (by decide)) rfl mo_J5_nextSetBit (by first | exact Or.inl (by assumption) | assumption | (refine Or.inl ?_; repeat' first | assumption | exact hu_s | refine hu_o (by assumption) ?_ | refine (hu_n (by first | assumption | exact Ne.symm (by assumption) | exact ne_o (by assumption) (by assumption) | exact Ne.symm (ne_o (by assumption) (by assumption)))).trans ?_)) rfl (lkA q1234) (lkA q1235) (lkA q1236) rfl (lkA q72) mp_J5_nextSetBit (Nat.le_of_ble_eq_true rfl) (Nat.le_of_ble_eq_true rfl) (Nat.le_of_ble_eq_true rfl) (kr_e ?_) kx_e
  refine r_istore_n dX2_set_31 (Nat.le_of_ble_eq_true rfl) ?_
  refine r_goto 11 dX2_set_32 rfl ?_
  refine r_iload_n dX2_set_11 rfl ?_
  refine r_if_lt 35 dX2_set_12 rfl (fun c12 => absurd c12 (by decide)) (fun c12 => ?_)
  refine r_iload_n dX2_set_15 rfl ?_
  refine r_iconst (v := 1) dX2_set_16 rfl ?_
  refine r_iload_n dX2_set_17 rfl ?_
  refine r_ishl dX2_set_18 ?_
  refine r_ior dX2_set_19 ?_
  refine r_istore_n dX2_set_20 (Nat.le_of_ble_eq_true rfl) ?_
  first | refine r_aload_n dX2_set_21 rfl ?_ | refine r_aload_nq dX2_set_21 rfl ?_ | refine r_aload_nN dX2_set_21 rfl ?_
  refine r_getfield 2 4 dX2_set_22 rfl (Nat.le_of_ble_eq_true rfl) (lkA q214) (Or.inl rfl) (by first | exact Or.inl (by assumption) | assumption | (refine Or.inl ?_; repeat' first | assumption | exact hu_s | refine hu_o (by assumption) ?_ | refine (hu_n (by first | assumption | exact Ne.symm (by assumption) | exact ne_o (by assumption) (by assumption) | exact Ne.symm (ne_o (by assumption) (by assumption)))).trans ?_)) (by rfl) ?_
  refine r_iload_n dX2_set_25 rfl ?_
  refine r_iconst (v := 1) dX2_set_26 rfl ?_
  refine r_iadd dX2_set_27 ?_
  refine r_invV dX2_set_28 (sp_J5_nextSetBit hK hb hwa (by decide) (by decide) (by decide) (by decide)) rfl mo_J5_nextSetBit (by first | exact Or.inl (by assumption) | assumption | (refine Or.inl ?_; repeat' first | assumption | exact hu_s | refine hu_o (by assumption) ?_ | refine (hu_n (by first | assumption | exact Ne.symm (by assumption) | exact ne_o (by assumption) (by assumption) | exact Ne.symm (ne_o (by assumption) (by assumption)))).trans ?_)) rfl (lkA q1234) (lkA q1235) (lkA q1236) rfl (lkA q72) mp_J5_nextSetBit (Nat.le_of_ble_eq_true rfl) (Nat.le_of_ble_eq_true rfl) (Nat.le_of_ble_eq_true rfl) (kr_e ?_) kx_e
  refine r_istore_n dX2_set_31 (Nat.le_of_ble_eq_true rfl) ?_
  refine r_goto 11 dX2_set_32 rfl ?_
  refine r_iload_n dX2_set_11 rfl ?_
  refine r_if_lt 35 dX2_set_12 rfl (fun c12 => ?_) (fun c12 => absurd c12 (by decide))
  refine r_iload_n dX2_set_35 rfl ?_
  exact r_ireturn dX2_set_36 rfl (by first | rfl | exact bi_nar) ⟨congrArg (fun z => some (Value.int z)) (by decide), rfl⟩

set_option maxHeartbeats 4000000 in
set_option maxRecDepth 100000 in
theorem sp_X2_set_7 {G : GG} {h : HP} (hK : KS G) {a : Nat} {nr t dg bt : Int32} {b : Nat} {wa : Nat} (ha : h a = some (bO 2 [.int nr, .int t, .int dg, .int bt, .ref b])) (hb : h b = some (bBs wa 7)) (hwa : h wa = some (bWd 7)) : Ct G 3 0 M_X2_set [.ref a] h (eQ (some (.int 7)) h) := by
  refine ct_intro my_X2_set (Nat.le_of_ble_eq_true rfl) ?_
  refine r_iconst (v := 0) dX2_set_0 rfl ?_
  refine r_istore_n dX2_set_1 (Nat.le_of_ble_eq_true rfl) ?_
  first | refine r_aload_n dX2_set_2 rfl ?_ | refine r_aload_nq dX2_set_2 rfl ?_ | refine r_aload_nN dX2_set_2 rfl ?_
  refine r_getfield 2 4 dX2_set_3 rfl (Nat.le_of_ble_eq_true rfl) (lkA q214) (Or.inl rfl) (by first | exact Or.inl (by assumption) | assumption | (refine Or.inl ?_; repeat' first | assumption | exact hu_s | refine hu_o (by assumption) ?_ | refine (hu_n (by first | assumption | exact Ne.symm (by assumption) | exact ne_o (by assumption) (by assumption) | exact Ne.symm (ne_o (by assumption) (by assumption)))).trans ?_)) (by rfl) ?_
  refine r_iconst (v := 0) dX2_set_6 rfl ?_
  refine r_invV dX2_set_7 (sp_J5_nextSetBit hK hb hwa (by decide) (by decide) (by decide) (by decide)) rfl mo_J5_nextSetBit (by first | exact Or.inl (by assumption) | assumption | (refine Or.inl ?_; repeat' first | assumption | exact hu_s | refine hu_o (by assumption) ?_ | refine (hu_n (by first | assumption | exact Ne.symm (by assumption) | exact ne_o (by assumption) (by assumption) | exact Ne.symm (ne_o (by assumption) (by assumption)))).trans ?_)) rfl (lkA q1234) (lkA q1235) (lkA q1236) rfl (lkA q72) mp_J5_nextSetBit (Nat.le_of_ble_eq_true rfl) (Nat.le_of_ble_eq_true rfl) (Nat.le_of_ble_eq_true rfl) (kr_e ?_) kx_e
  refine r_istore_n dX2_set_10 (Nat.le_of_ble_eq_true rfl) ?_
  refine r_iload_n dX2_set_11 rfl ?_
  refine r_if_lt 35 dX2_set_12 rfl (fun c12 => absurd c12 (by decide)) (fun c12 => ?_)
  refine r_iload_n dX2_set_15 rfl ?_
  refine r_iconst (v := 1) dX2_set_16 rfl ?_
  refine r_iload_n dX2_set_17 rfl ?_
  refine r_ishl dX2_set_18 ?_
  refine r_ior dX2_set_19 ?_
  refine r_istore_n dX2_set_20 (Nat.le_of_ble_eq_true rfl) ?_
  first | refine r_aload_n dX2_set_21 rfl ?_ | refine r_aload_nq dX2_set_21 rfl ?_ | refine r_aload_nN dX2_set_21 rfl ?_
  refine r_getfield 2 4 dX2_set_22 rfl (Nat.le_of_ble_eq_true rfl) (lkA q214) (Or.inl rfl) (by first | exact Or.inl (by assumption) | assumption | (refine Or.inl ?_; repeat' first | assumption | exact hu_s | refine hu_o (by assumption) ?_ | refine (hu_n (by first | assumption | exact Ne.symm (by assumption) | exact ne_o (by assumption) (by assumption) | exact Ne.symm (ne_o (by assumption) (by assumption)))).trans ?_)) (by rfl) ?_
  refine r_iload_n dX2_set_25 rfl ?_
  refine r_iconst (v := 1) dX2_set_26 rfl ?_
  refine r_iadd dX2_set_27 ?_
  refine r_invV dX2_set_28 (sp_J5_nextSetBit hK hb hwa (by decide) (by decide) (by decide) (by decide)) rfl mo_J5_nextSetBit (by first | exact Or.inl (by assumption) | assumption | (refine Or.inl ?_; repeat' first | assumption | exact hu_s | refine hu_o (by assumption) ?_ | refine (hu_n (by first | assumption | exact Ne.symm (by assumption) | exact ne_o (by assumption) (by assumption) | exact Ne.symm (ne_o (by assumption) (by assumption)))).trans ?_)) rfl (lkA q1234) (lkA q1235) (lkA q1236) rfl (lkA q72) mp_J5_nextSetBit (Nat.le_of_ble_eq_true rfl) (Nat.le_of_ble_eq_true rfl) (Nat.le_of_ble_eq_true rfl) (kr_e ?_) kx_e
  refine r_istore_n dX2_set_31 (Nat.le_of_ble_eq_true rfl) ?_
  refine r_goto 11 dX2_set_32 rfl ?_
  refine r_iload_n dX2_set_11 rfl ?_
  refine r_if_lt 35 dX2_set_12 rfl (fun c12 => absurd c12 (by decide)) (fun c12 => ?_)
  refine r_iload_n dX2_set_15 rfl ?_
  refine r_iconst (v := 1) dX2_set_16 rfl ?_
  refine r_iload_n dX2_set_17 rfl ?_
  refine r_ishl dX2_set_18 ?_
  refine r_ior dX2_set_19 ?_
  refine r_istore_n dX2_set_20 (Nat.le_of_ble_eq_true rfl) ?_
  first | refine r_aload_n dX2_set_21 rfl ?_ | refine r_aload_nq dX2_set_21 rfl ?_ | refine r_aload_nN dX2_set_21 rfl ?_
  refine r_getfield 2 4 dX2_set_22 rfl (Nat.le_of_ble_eq_true rfl) (lkA q214) (Or.inl rfl) (by first | exact Or.inl (by assumption) | assumption | (refine Or.inl ?_; repeat' first | assumption | exact hu_s | refine hu_o (by assumption) ?_ | refine (hu_n (by first | assumption | exact Ne.symm (by assumption) | exact ne_o (by assumption) (by assumption) | exact Ne.symm (ne_o (by assumption) (by assumption)))).trans ?_)) (by rfl) ?_
  refine r_iload_n dX2_set_25 rfl ?_
  refine r_iconst (v := 1) dX2_set_26 rfl ?_
  refine r_iadd dX2_set_27 ?_
  refine r_invV dX2_set_28 (sp_J5_nextSetBit hK hb hwa (by decide) (by decide) (by decide) (by decide)) rfl mo_J5_nextSetBit (by first | exact Or.inl (by assumption) | assumption | (refine Or.inl ?_; repeat' first | assumption | exact hu_s | refine hu_o (by assumption) ?_ | refine (hu_n (by first | assumption | exact Ne.symm (by assumption) | exact ne_o (by assumption) (by assumption) | exact Ne.symm (ne_o (by assumption) (by assumption)))).trans ?_)) rfl (lkA q1234) (lkA q1235) (lkA q1236) rfl (lkA q72) mp_J5_nextSetBit (Nat.le_of_ble_eq_true rfl) (Nat.le_of_ble_eq_true rfl) (Nat.le_of_ble_eq_true rfl) (kr_e ?_) kx_e
  refine r_istore_n dX2_set_31 (Nat.le_of_ble_eq_true rfl) ?_
  refine r_goto 11 dX2_set_32 rfl ?_
  refine r_iload_n dX2_set_11 rfl ?_
  refine r_if_lt 35 dX2_set_12 rfl (fun c12 => absurd c12 (by decide)) (fun c12 => ?_)
  refine r_iload_n dX2_set_15 rfl ?_
  refine r_iconst (v := 1) dX2_set_16 rfl ?_
  refine r_iload_n dX2_set_17 rfl ?_
  refine r_ishl dX2_set_18 ?_
  refine r_ior dX2_set_19 ?_
  refine r_istore_n dX2_set_20 (Nat.le_of_ble_eq_true rfl) ?_
  first | refine r_aload_n dX2_set_21 rfl ?_ | refine r_aload_nq dX2_set_21 rfl ?_ | refine r_aload_nN dX2_set_21 rfl ?_
  refine r_getfield 2 4 dX2_set_22 rfl (Nat.le_of_ble_eq_true rfl) (lkA q214) (Or.inl rfl) (by first | exact Or.inl (by assumption) | assumption | (refine Or.inl ?_; repeat' first | assumption | exact hu_s | refine hu_o (by assumption) ?_ | refine (hu_n (by first | assumption | exact Ne.symm (by assumption) | exact ne_o (by assumption) (by assumption) | exact Ne.symm (ne_o (by assumption) (by assumption)))).trans ?_)) (by rfl) ?_
  refine r_iload_n dX2_set_25 rfl ?_
  refine r_iconst (v := 1) dX2_set_26 rfl ?_
  refine r_iadd dX2_set_27 ?_
  refine r_invV dX2_set_28 (sp_J5_nextSetBit hK hb hwa (by decide) (by decide) (by decide) (by decide)) rfl mo_J5_nextSetBit (by first | exact Or.inl (by assumption) | assumption | (refine Or.inl ?_; repeat' first | assumption | exact hu_s | refine hu_o (by assumption) ?_ | refine (hu_n (by first | assumption | exact Ne.symm (by assumption) | exact ne_o (by assumption) (by assumption) | exact Ne.symm (ne_o (by assumption) (by assumption)))).trans ?_)) rfl (lkA q1234) (lkA q1235) (lkA q1236) rfl (lkA q72) mp_J5_nextSetBit (Nat.le_of_ble_eq_true rfl) (Nat.le_of_ble_eq_true rfl) (Nat.le_of_ble_eq_true rfl) (kr_e ?_) kx_e
  refine r_istore_n dX2_set_31 (Nat.le_of_ble_eq_true rfl) ?_
  refine r_goto 11 dX2_set_32 rfl ?_
  refine r_iload_n dX2_set_11 rfl ?_
  refine r_if_lt 35 dX2_set_12 rfl (fun c12 => ?_) (fun c12 => absurd c12 (by decide))
  refine r_iload_n dX2_set_35 rfl ?_
  exact r_ireturn dX2_set_36 rfl (by first | rfl | exact bi_nar) ⟨congrArg (fun z => some (Value.int z)) (by decide), rfl⟩

theorem sp_X2_set {G : GG} {h : HP} (hK : KS G) {a : Nat} {nr t dg bt : Int32} {b : Nat} {wa : Nat} {w : Int32} (ha : h a = some (bO 2 [.int nr, .int t, .int dg, .int bt, .ref b])) (hb : h b = some (bBs wa w)) (hwa : h wa = some (bWd w)) (h0 : 0 ≤ w.toInt) (h7 : w.toInt ≤ 7) : Ct G 3 0 M_X2_set [.ref a] h (eQ (some (.int w)) h) := by
  rcases i8 h0 h7 with rfl | rfl | rfl | rfl | rfl | rfl | rfl | rfl
  · exact sp_X2_set_0 hK ha hb hwa
  · exact sp_X2_set_1 hK ha hb hwa
  · exact sp_X2_set_2 hK ha hb hwa
  · exact sp_X2_set_3 hK ha hb hwa
  · exact sp_X2_set_4 hK ha hb hwa
  · exact sp_X2_set_5 hK ha hb hwa
  · exact sp_X2_set_6 hK ha hb hwa
  · exact sp_X2_set_7 hK ha hb hwa

def f5 (a0 a1 a2 a3 a4 : Int32) : Nat → Int32 := fun k => match k with
  | 0 => a0
  | 1 => a1
  | 2 => a2
  | 3 => a3
  | 4 => a4
  | _ => -12
set_option maxHeartbeats 4000000 in
set_option maxRecDepth 100000 in
theorem sp_X2_value {G : GG} {h : HP} (hK : KS G) {a : Nat} {nr t dg bt : Int32} {b : Nat} {x : Int32} (ha : h a = some (bO 2 [.int nr, .int t, .int dg, .int bt, .ref b])) {wa : Nat} {w : Int32} (hb : h b = some (bBs wa w)) (hwa : h wa = some (bWd w)) (h0 : 0 ≤ w.toInt) (h7 : w.toInt ≤ 7)  : Ct G 4 0 M_X2_value [.ref a, .int x] h (eQ (some (.int (ofV 4 (f5 (gSteps nr) t dg bt w) x))) h) := by
  refine ct_intro my_X2_value (Nat.le_of_ble_eq_true rfl) ?_
  refine r_iload_n dX2_value_0 rfl ?_
  rcases (show x.toInt < 0 ∨ 4 < x.toInt ∨ x.toInt = 0 ∨ x.toInt = 1 ∨ x.toInt = 2 ∨ x.toInt = 3 ∨ x.toInt = 4 by omega) with hsw | hsw | hsw | hsw | hsw | hsw | hsw
  · refine r_tableOut 71 dX2_value_1 (Or.inl hsw) rfl ?_
    refine r_bipush (v := (-12)) dX2_value_71 rfl ?_
    exact r_ireturn dX2_value_73 rfl (by first | rfl | exact bi_nar) (by refine ⟨?_, rfl⟩; rw [ofV_out (Or.inl hsw)])
  · refine r_tableOut 71 dX2_value_1 (Or.inr hsw) rfl ?_
    refine r_bipush (v := (-12)) dX2_value_71 rfl ?_
    exact r_ireturn dX2_value_73 rfl (by first | rfl | exact bi_nar) (by refine ⟨?_, rfl⟩; rw [ofV_out (Or.inr hsw)])
  · obtain rfl : x = 0 := i32_eq.mpr hsw
    refine r_tableIn (off := 35) 36 dX2_value_1 (by decide) (by decide) rfl rfl ?_
    first | refine r_aload_n dX2_value_36 rfl ?_ | refine r_aload_nq dX2_value_36 rfl ?_ | refine r_aload_nN dX2_value_36 rfl ?_
    refine r_invV dX2_value_37 (sp_X2_steps ha) rfl mo_X2_steps (by first | exact Or.inl (by assumption) | assumption | (refine Or.inl ?_; repeat' first | assumption | exact hu_s | refine hu_o (by assumption) ?_ | refine (hu_n (by first | assumption | exact Ne.symm (by assumption) | exact ne_o (by assumption) (by assumption) | exact Ne.symm (ne_o (by assumption) (by assumption)))).trans ?_)) rfl (lkA q1226) (lkA q1227) (lkA q1228) rfl (lkA q71) mp_X2_steps (Nat.le_of_ble_eq_true rfl) (Nat.le_of_ble_eq_true rfl) (Nat.le_of_ble_eq_true rfl) (kr_e ?_) kx_e
    refine r_goto 73 dX2_value_40 rfl ?_
    exact r_ireturn dX2_value_73 rfl (by first | rfl | exact bi_nar) (by refine ⟨?_, rfl⟩; rw [ofV_in 0 rfl (by decide)]; rfl)
  · obtain rfl : x = 1 := i32_eq.mpr hsw
    refine r_tableIn (off := 42) 43 dX2_value_1 (by decide) (by decide) rfl rfl ?_
    first | refine r_aload_n dX2_value_43 rfl ?_ | refine r_aload_nq dX2_value_43 rfl ?_ | refine r_aload_nN dX2_value_43 rfl ?_
    refine r_getfield 2 1 dX2_value_44 rfl (Nat.le_of_ble_eq_true rfl) (lkA q209) (Or.inl rfl) (by first | exact Or.inl (by assumption) | assumption | (refine Or.inl ?_; repeat' first | assumption | exact hu_s | refine hu_o (by assumption) ?_ | refine (hu_n (by first | assumption | exact Ne.symm (by assumption) | exact ne_o (by assumption) (by assumption) | exact Ne.symm (ne_o (by assumption) (by assumption)))).trans ?_)) (by rfl) ?_
    refine r_goto 73 dX2_value_47 rfl ?_
    exact r_ireturn dX2_value_73 rfl (by first | rfl | exact bi_nar) (by refine ⟨?_, rfl⟩; rw [ofV_in 1 rfl (by decide)]; rfl)
  · obtain rfl : x = 2 := i32_eq.mpr hsw
    refine r_tableIn (off := 49) 50 dX2_value_1 (by decide) (by decide) rfl rfl ?_
    first | refine r_aload_n dX2_value_50 rfl ?_ | refine r_aload_nq dX2_value_50 rfl ?_ | refine r_aload_nN dX2_value_50 rfl ?_
    refine r_getfield 2 2 dX2_value_51 rfl (Nat.le_of_ble_eq_true rfl) (lkA q211) (Or.inl rfl) (by first | exact Or.inl (by assumption) | assumption | (refine Or.inl ?_; repeat' first | assumption | exact hu_s | refine hu_o (by assumption) ?_ | refine (hu_n (by first | assumption | exact Ne.symm (by assumption) | exact ne_o (by assumption) (by assumption) | exact Ne.symm (ne_o (by assumption) (by assumption)))).trans ?_)) (by rfl) ?_
    refine r_goto 73 dX2_value_54 rfl ?_
    exact r_ireturn dX2_value_73 rfl (by first | rfl | exact bi_nar) (by refine ⟨?_, rfl⟩; rw [ofV_in 2 rfl (by decide)]; rfl)
  · obtain rfl : x = 3 := i32_eq.mpr hsw
    refine r_tableIn (off := 56) 57 dX2_value_1 (by decide) (by decide) rfl rfl ?_
    first | refine r_aload_n dX2_value_57 rfl ?_ | refine r_aload_nq dX2_value_57 rfl ?_ | refine r_aload_nN dX2_value_57 rfl ?_
    refine r_getfield 2 3 dX2_value_58 rfl (Nat.le_of_ble_eq_true rfl) (lkA q213) (Or.inl rfl) (by first | exact Or.inl (by assumption) | assumption | (refine Or.inl ?_; repeat' first | assumption | exact hu_s | refine hu_o (by assumption) ?_ | refine (hu_n (by first | assumption | exact Ne.symm (by assumption) | exact ne_o (by assumption) (by assumption) | exact Ne.symm (ne_o (by assumption) (by assumption)))).trans ?_)) (by rfl) ?_
    refine r_goto 73 dX2_value_61 rfl ?_
    exact r_ireturn dX2_value_73 rfl (by first | rfl | exact bi_nar) (by refine ⟨?_, rfl⟩; rw [ofV_in 3 rfl (by decide)]; rfl)
  · obtain rfl : x = 4 := i32_eq.mpr hsw
    refine r_tableIn (off := 63) 64 dX2_value_1 (by decide) (by decide) rfl rfl ?_
    first | refine r_aload_n dX2_value_64 rfl ?_ | refine r_aload_nq dX2_value_64 rfl ?_ | refine r_aload_nN dX2_value_64 rfl ?_
    refine r_invV dX2_value_65 (sp_X2_set hK ha hb hwa h0 h7) rfl mo_X2_set (by first | exact Or.inl (by assumption) | assumption | (refine Or.inl ?_; repeat' first | assumption | exact hu_s | refine hu_o (by assumption) ?_ | refine (hu_n (by first | assumption | exact Ne.symm (by assumption) | exact ne_o (by assumption) (by assumption) | exact Ne.symm (ne_o (by assumption) (by assumption)))).trans ?_)) rfl (lkA q1230) (lkA q1231) (lkA q1232) rfl (lkA q71) mp_X2_set (Nat.le_of_ble_eq_true rfl) (Nat.le_of_ble_eq_true rfl) (Nat.le_of_ble_eq_true rfl) (kr_e ?_) kx_e
    refine r_goto 73 dX2_value_68 rfl ?_
    exact r_ireturn dX2_value_73 rfl (by first | rfl | exact bi_nar) (by refine ⟨?_, rfl⟩; rw [ofV_in 4 rfl (by decide)]; rfl)

