set_option maxRecDepth 100000
set_option maxHeartbeats 4000000 in
set_option maxRecDepth 100000 in
theorem sp_X4_house {G : GG} {h : HP} {a : Nat} {c p w s b g : Int32} {r : Nat} (ha : h a = some (bO 4 [.int c, .int p, .int w, .ref r, .int s, .int b, .int g]))  : Ct G 0 0 M_X4_house [.ref a] h (eQ (some (.int p)) h) := by
  refine ct_intro my_X4_house (Nat.le_of_ble_eq_true rfl) ?_
  first | refine r_aload_n dX4_house_0 rfl ?_ | refine r_aload_nq dX4_house_0 rfl ?_ | refine r_aload_nN dX4_house_0 rfl ?_
  refine r_getfield 4 1 dX4_house_1 rfl (Nat.le_of_ble_eq_true rfl) (lkA q875) (Or.inl rfl) (by first | exact Or.inl (by assumption) | assumption | (refine Or.inl ?_; repeat' first | assumption | exact hu_s | refine hu_o (by assumption) ?_ | refine (hu_n (by first | assumption | exact Ne.symm (by assumption) | exact ne_o (by assumption) (by assumption) | exact Ne.symm (ne_o (by assumption) (by assumption)))).trans ?_)) (by rfl) ?_
  exact r_ireturn dX4_house_4 rfl (by first | rfl | exact bi_nar) (by first | exact ⟨rfl, rfl⟩ | rfl)

set_option maxHeartbeats 4000000 in
set_option maxRecDepth 100000 in
theorem sp_X7_far {G : GG} {h : HP} {x y : Int32} : Ct G 1 0 M_X7_far [.int x, .int y] h (eQ (some (.int (iabs (x - y)))) h) := by
  refine ct_intro my_X7_far (Nat.le_of_ble_eq_true rfl) ?_
  refine r_iload_n dX7_far_0 rfl ?_
  refine r_iload_n dX7_far_1 rfl ?_
  refine r_isub dX7_far_2 ?_
  refine r_mabs dX7_far_3 (lkA q1266) (lkA q1267) (lkA q74) (lkA q1268) (Nat.le_of_ble_eq_true rfl) (Nat.le_of_ble_eq_true rfl) ?_
  exact r_ireturn dX7_far_6 rfl (by first | rfl | exact bi_nar) (by first | exact ⟨rfl, rfl⟩ | rfl)

set_option maxHeartbeats 4000000 in
set_option maxRecDepth 100000 in
theorem sp_X7_isAt {G : GG} {h : HP} {a : Nat} {c p w s b g : Int32} {r : Nat} {x : Int32} (ha : h a = some (bO 4 [.int c, .int p, .int w, .ref r, .int s, .int b, .int g]))  : Ct G 1 0 M_X7_isAt [.ref a, .int x] h (eQ (some (.int (bi (decide (p = x))))) h) := by
  refine ct_intro my_X7_isAt (Nat.le_of_ble_eq_true rfl) ?_
  first | refine r_aload_n dX7_isAt_0 rfl ?_ | refine r_aload_nq dX7_isAt_0 rfl ?_ | refine r_aload_nN dX7_isAt_0 rfl ?_
  refine r_invF dX7_isAt_1 (sp_X4_house ha) rfl mo_X4_house (by first | exact Or.inl (by assumption) | assumption | (refine Or.inl ?_; repeat' first | assumption | exact hu_s | refine hu_o (by assumption) ?_ | refine (hu_n (by first | assumption | exact Ne.symm (by assumption) | exact ne_o (by assumption) (by assumption) | exact Ne.symm (ne_o (by assumption) (by assumption)))).trans ?_)) rfl (lkA q1182) ⟨q1184, q1183, q1195, q1193, q1191⟩ ⟨by decide +kernel, by decide +kernel⟩ (lkA q1192) (lkA q1194) rfl (show _ = some 0 from by decide +kernel) (lkA q91) mp_X4_house (Nat.le_of_ble_eq_true rfl) (Nat.le_of_ble_eq_true rfl) (Nat.le_of_ble_eq_true rfl) (kr_e ?_) kx_e
  refine r_iload_n dX7_isAt_6 rfl ?_
  refine r_icmp_ne 14 dX7_isAt_7 rfl (fun c7 => ?_) (fun c7 => ?_)
  · refine r_iconst (v := 0) dX7_isAt_14 rfl ?_
    exact r_ireturn dX7_isAt_15 rfl (by first | rfl | exact bi_nar) ⟨congrArg (fun z => some (Value.int z)) (bi_f (decide_eq_false c7)), rfl⟩
  · refine r_iconst (v := 1) dX7_isAt_10 rfl ?_
    refine r_goto 15 dX7_isAt_11 rfl ?_
    exact r_ireturn dX7_isAt_15 rfl (by first | rfl | exact bi_nar) ⟨congrArg (fun z => some (Value.int z)) (bi_t (decide_eq_true c7)), rfl⟩

set_option maxHeartbeats 4000000 in
set_option maxRecDepth 100000 in
theorem sp_X7_houses {G : GG} {h : HP} {a : Nat} {c p w s b g : Int32} {r : Nat} {x : Int32} (ha : h a = some (bO 4 [.int c, .int p, .int w, .ref r, .int s, .int b, .int g]))  : Ct G 2 0 M_X7_houses [.ref a, .int x] h (eQ (some (.int (iabs (p - x)))) h) := by
  refine ct_intro my_X7_houses (Nat.le_of_ble_eq_true rfl) ?_
  first | refine r_aload_n dX7_houses_0 rfl ?_ | refine r_aload_nq dX7_houses_0 rfl ?_ | refine r_aload_nN dX7_houses_0 rfl ?_
  refine r_invF dX7_houses_1 (sp_X4_house ha) rfl mo_X4_house (by first | exact Or.inl (by assumption) | assumption | (refine Or.inl ?_; repeat' first | assumption | exact hu_s | refine hu_o (by assumption) ?_ | refine (hu_n (by first | assumption | exact Ne.symm (by assumption) | exact ne_o (by assumption) (by assumption) | exact Ne.symm (ne_o (by assumption) (by assumption)))).trans ?_)) rfl (lkA q1182) ⟨q1184, q1183, q1195, q1193, q1191⟩ ⟨by decide +kernel, by decide +kernel⟩ (lkA q1192) (lkA q1194) rfl (show _ = some 0 from by decide +kernel) (lkA q91) mp_X4_house (Nat.le_of_ble_eq_true rfl) (Nat.le_of_ble_eq_true rfl) (Nat.le_of_ble_eq_true rfl) (kr_e ?_) kx_e
  refine r_iload_n dX7_houses_6 rfl ?_
  refine r_invS dX7_houses_7 (sp_X7_far ) rfl mo_X7_far (lkA q1263) (lkA q1264) (lkA q102) mp_X7_far (Nat.le_of_ble_eq_true rfl) (Nat.le_of_ble_eq_true rfl) (Nat.le_of_ble_eq_true rfl) (kr_e ?_) kx_e
  exact r_ireturn dX7_houses_10 rfl (by first | rfl | exact bi_nar) (by first | exact ⟨rfl, rfl⟩ | rfl)

set_option maxHeartbeats 4000000 in
set_option maxRecDepth 100000 in
theorem sp_X4_room {G : GG} {h : HP} {a : Nat} {c p w s b g : Int32} {r : Nat} {x : Int32} {f : Nat → Int32} {j : Nat} (ha : h a = some (bO 4 [.int c, .int p, .int w, .ref r, .int s, .int b, .int g])) (hr : h r = some (bI 0 3 f)) (hj : x.toInt = (j : Int)) (hj3 : j < 3) : Ct G 0 0 M_X4_room [.ref a, .int x] h (eQ (some (.int (12 - f j))) h) := by
  refine ct_intro my_X4_room (Nat.le_of_ble_eq_true rfl) ?_
  refine r_bipush (v := 12) dX4_room_0 rfl ?_
  first | refine r_aload_n dX4_room_2 rfl ?_ | refine r_aload_nq dX4_room_2 rfl ?_ | refine r_aload_nN dX4_room_2 rfl ?_
  refine r_getfield 4 3 dX4_room_3 rfl (Nat.le_of_ble_eq_true rfl) (lkA q879) (Or.inl rfl) (by first | exact Or.inl (by assumption) | assumption | (refine Or.inl ?_; repeat' first | assumption | exact hu_s | refine hu_o (by assumption) ?_ | refine (hu_n (by first | assumption | exact Ne.symm (by assumption) | exact ne_o (by assumption) (by assumption) | exact Ne.symm (ne_o (by assumption) (by assumption)))).trans ?_)) (by rfl) ?_
  refine r_iload_n dX4_room_6 rfl ?_
  refine r_iaload (j) dX4_room_7 (by first | exact Or.inl (by assumption) | assumption | (refine Or.inl ?_; repeat' first | assumption | exact hu_s | refine hu_o (by assumption) ?_ | refine (hu_n (by first | assumption | exact Ne.symm (by assumption) | exact ne_o (by assumption) (by assumption) | exact Ne.symm (ne_o (by assumption) (by assumption)))).trans ?_)) hj hj3 rfl ?_
  refine r_isub dX4_room_8 ?_
  exact r_ireturn dX4_room_9 rfl (by first | rfl | exact bi_nar) (by first | exact ⟨rfl, rfl⟩ | rfl)

set_option maxHeartbeats 4000000 in
set_option maxRecDepth 100000 in
theorem sp_X4_all {G : GG} {h : HP} {a : Nat} {c p w s b g : Int32} {r : Nat} {f : Nat → Int32} (ha : h a = some (bO 4 [.int c, .int p, .int w, .ref r, .int s, .int b, .int g])) (hr : h r = some (bI 0 3 f))  : Ct G 0 0 M_X4_all [.ref a] h (eQ (some (.int (f 0 + f 1 + f 2))) h) := by
  refine ct_intro my_X4_all (Nat.le_of_ble_eq_true rfl) ?_
  first | refine r_aload_n dX4_all_0 rfl ?_ | refine r_aload_nq dX4_all_0 rfl ?_ | refine r_aload_nN dX4_all_0 rfl ?_
  refine r_getfield 4 3 dX4_all_1 rfl (Nat.le_of_ble_eq_true rfl) (lkA q879) (Or.inl rfl) (by first | exact Or.inl (by assumption) | assumption | (refine Or.inl ?_; repeat' first | assumption | exact hu_s | refine hu_o (by assumption) ?_ | refine (hu_n (by first | assumption | exact Ne.symm (by assumption) | exact ne_o (by assumption) (by assumption) | exact Ne.symm (ne_o (by assumption) (by assumption)))).trans ?_)) (by rfl) ?_
  refine r_iconst (v := 0) dX4_all_4 rfl ?_
  refine r_iaload (0) dX4_all_5 (by first | exact Or.inl (by assumption) | assumption | (refine Or.inl ?_; repeat' first | assumption | exact hu_s | refine hu_o (by assumption) ?_ | refine (hu_n (by first | assumption | exact Ne.symm (by assumption) | exact ne_o (by assumption) (by assumption) | exact Ne.symm (ne_o (by assumption) (by assumption)))).trans ?_)) rfl (Nat.le_of_ble_eq_true rfl) rfl ?_
  first | refine r_aload_n dX4_all_6 rfl ?_ | refine r_aload_nq dX4_all_6 rfl ?_ | refine r_aload_nN dX4_all_6 rfl ?_
  refine r_getfield 4 3 dX4_all_7 rfl (Nat.le_of_ble_eq_true rfl) (lkA q879) (Or.inl rfl) (by first | exact Or.inl (by assumption) | assumption | (refine Or.inl ?_; repeat' first | assumption | exact hu_s | refine hu_o (by assumption) ?_ | refine (hu_n (by first | assumption | exact Ne.symm (by assumption) | exact ne_o (by assumption) (by assumption) | exact Ne.symm (ne_o (by assumption) (by assumption)))).trans ?_)) (by rfl) ?_
  refine r_iconst (v := 1) dX4_all_10 rfl ?_
  refine r_iaload (1) dX4_all_11 (by first | exact Or.inl (by assumption) | assumption | (refine Or.inl ?_; repeat' first | assumption | exact hu_s | refine hu_o (by assumption) ?_ | refine (hu_n (by first | assumption | exact Ne.symm (by assumption) | exact ne_o (by assumption) (by assumption) | exact Ne.symm (ne_o (by assumption) (by assumption)))).trans ?_)) rfl (Nat.le_of_ble_eq_true rfl) rfl ?_
  refine r_iadd dX4_all_12 ?_
  first | refine r_aload_n dX4_all_13 rfl ?_ | refine r_aload_nq dX4_all_13 rfl ?_ | refine r_aload_nN dX4_all_13 rfl ?_
  refine r_getfield 4 3 dX4_all_14 rfl (Nat.le_of_ble_eq_true rfl) (lkA q879) (Or.inl rfl) (by first | exact Or.inl (by assumption) | assumption | (refine Or.inl ?_; repeat' first | assumption | exact hu_s | refine hu_o (by assumption) ?_ | refine (hu_n (by first | assumption | exact Ne.symm (by assumption) | exact ne_o (by assumption) (by assumption) | exact Ne.symm (ne_o (by assumption) (by assumption)))).trans ?_)) (by rfl) ?_
  refine r_iconst (v := 2) dX4_all_17 rfl ?_
  refine r_iaload (2) dX4_all_18 (by first | exact Or.inl (by assumption) | assumption | (refine Or.inl ?_; repeat' first | assumption | exact hu_s | refine hu_o (by assumption) ?_ | refine (hu_n (by first | assumption | exact Ne.symm (by assumption) | exact ne_o (by assumption) (by assumption) | exact Ne.symm (ne_o (by assumption) (by assumption)))).trans ?_)) rfl (Nat.le_of_ble_eq_true rfl) rfl ?_
  refine r_iadd dX4_all_19 ?_
  exact r_ireturn dX4_all_20 rfl (by first | rfl | exact bi_nar) (by first | exact ⟨rfl, rfl⟩ | rfl)

set_option maxHeartbeats 4000000 in
set_option maxRecDepth 100000 in
theorem sp_X4_checkSoles {G : GG} {h : HP} (hK : KS G) {a : Nat} {c p w s b g : Int32} {r : Nat} {x : Int32} (ha : h a = some (bO 4 [.int c, .int p, .int w, .ref r, .int s, .int b, .int g]))  : Ct G 6 9 M_X4_checkSoles [.ref a, .int x] h (tfQ (100 < w + x) (bRef 2 (w + x - 100)) h) := by
  refine ct_intro my_X4_checkSoles (Nat.le_of_ble_eq_true rfl) ?_
  first | refine r_aload_n dX4_checkSoles_0 rfl ?_ | refine r_aload_nq dX4_checkSoles_0 rfl ?_ | refine r_aload_nN dX4_checkSoles_0 rfl ?_
  refine r_getfield 4 2 dX4_checkSoles_1 rfl (Nat.le_of_ble_eq_true rfl) (lkA q877) (Or.inl rfl) (by first | exact Or.inl (by assumption) | assumption | (refine Or.inl ?_; repeat' first | assumption | exact hu_s | refine hu_o (by assumption) ?_ | refine (hu_n (by first | assumption | exact Ne.symm (by assumption) | exact ne_o (by assumption) (by assumption) | exact Ne.symm (ne_o (by assumption) (by assumption)))).trans ?_)) (by rfl) ?_
  refine r_iload_n dX4_checkSoles_4 rfl ?_
  refine r_iadd dX4_checkSoles_5 ?_
  refine r_bipush (v := 100) dX4_checkSoles_6 rfl ?_
  refine r_icmp_le 15 dX4_checkSoles_8 rfl (fun c8 => ?_) (fun c8 => ?_)
  · refine r_iconst (v := 0) dX4_checkSoles_15 rfl ?_
    refine r_iconst (v := 2) dX4_checkSoles_16 rfl ?_
    first | refine r_aload_n dX4_checkSoles_17 rfl ?_ | refine r_aload_nq dX4_checkSoles_17 rfl ?_ | refine r_aload_nN dX4_checkSoles_17 rfl ?_
    refine r_getfield 4 2 dX4_checkSoles_18 rfl (Nat.le_of_ble_eq_true rfl) (lkA q877) (Or.inl rfl) (by first | exact Or.inl (by assumption) | assumption | (refine Or.inl ?_; repeat' first | assumption | exact hu_s | refine hu_o (by assumption) ?_ | refine (hu_n (by first | assumption | exact Ne.symm (by assumption) | exact ne_o (by assumption) (by assumption) | exact Ne.symm (ne_o (by assumption) (by assumption)))).trans ?_)) (by rfl) ?_
    refine r_iload_n dX4_checkSoles_21 rfl ?_
    refine r_iadd dX4_checkSoles_22 ?_
    refine r_bipush (v := 100) dX4_checkSoles_23 rfl ?_
    refine r_isub dX4_checkSoles_25 ?_
    refine r_invSN dX4_checkSoles_26 (sp_X0_refuse0) rfl mo_X0_refuse (lkT q1273 rfl) (lkA q1052) rfl (lkA q64) mp_X0_refuse (Nat.le_of_ble_eq_true rfl) (Nat.le_of_ble_eq_true rfl) (Nat.le_of_ble_eq_true rfl) (kr_e ?_) kx_e
    exact r_return dX4_checkSoles_29 rfl ⟨Int32.not_lt.mpr c8, rfl, rfl⟩
  · refine r_iconst (v := 1) dX4_checkSoles_11 rfl ?_
    refine r_goto 16 dX4_checkSoles_12 rfl ?_
    refine r_iconst (v := 2) dX4_checkSoles_16 rfl ?_
    first | refine r_aload_n dX4_checkSoles_17 rfl ?_ | refine r_aload_nq dX4_checkSoles_17 rfl ?_ | refine r_aload_nN dX4_checkSoles_17 rfl ?_
    refine r_getfield 4 2 dX4_checkSoles_18 rfl (Nat.le_of_ble_eq_true rfl) (lkA q877) (Or.inl rfl) (by first | exact Or.inl (by assumption) | assumption | (refine Or.inl ?_; repeat' first | assumption | exact hu_s | refine hu_o (by assumption) ?_ | refine (hu_n (by first | assumption | exact Ne.symm (by assumption) | exact ne_o (by assumption) (by assumption) | exact Ne.symm (ne_o (by assumption) (by assumption)))).trans ?_)) (by rfl) ?_
    refine r_iload_n dX4_checkSoles_21 rfl ?_
    refine r_iadd dX4_checkSoles_22 ?_
    refine r_bipush (v := 100) dX4_checkSoles_23 rfl ?_
    refine r_isub dX4_checkSoles_25 ?_
    refine r_invSN dX4_checkSoles_26 (sp_X0_refuse1 hK) rfl mo_X0_refuse (lkT q1273 rfl) (lkA q1052) rfl (lkA q64) mp_X0_refuse (Nat.le_of_ble_eq_true rfl) (Nat.le_of_ble_eq_true rfl) (Nat.le_of_ble_eq_true rfl) (fun v9 h9 p9 => ?_) (fun q9 h9 ci9 fs9 p9 hq9 => (r_out hq9 rfl ⟨Int32.not_le.mp c8, p9.1, p9.2⟩))
    exact p9.elim

set_option maxHeartbeats 4000000 in
set_option maxRecDepth 100000 in
theorem sp_X4_goesTo {G : GG} {h : HP} {a : Nat} {c p w s b g : Int32} {r : Nat} {x : Int32} (ha : h a = some (bO 4 [.int c, .int p, .int w, .ref r, .int s, .int b, .int g]))  : Ct G 3 0 M_X4_goesTo [.ref a, .int x] h (eQ none (hu h a (bO 4 [.int c, .int x, .int (w + iabs (p - x)), .ref r, .int s, .int b, .int (g + iabs (p - x))]))) := by
  refine ct_intro my_X4_goesTo (Nat.le_of_ble_eq_true rfl) ?_
  first | refine r_aload_n dX4_goesTo_0 rfl ?_ | refine r_aload_nq dX4_goesTo_0 rfl ?_ | refine r_aload_nN dX4_goesTo_0 rfl ?_
  refine r_iload_n dX4_goesTo_1 rfl ?_
  refine r_invD (owner := "BrushSellers$Placed") dX4_goesTo_2 (sp_X7_houses ha) rfl mo_X7_houses (by first | exact Or.inl (by assumption) | assumption | (refine Or.inl ?_; repeat' first | assumption | exact hu_s | refine hu_o (by assumption) ?_ | refine (hu_n (by first | assumption | exact Ne.symm (by assumption) | exact ne_o (by assumption) (by assumption) | exact Ne.symm (ne_o (by assumption) (by assumption)))).trans ?_)) rfl nw_3 nw_6 q1258 ⟨by decide +kernel, by decide +kernel⟩ nw_8 (lkA q1260) rfl (show _ = some 1 from by decide +kernel) (lkA q102) mp_X7_houses (Nat.le_of_ble_eq_true rfl) (Nat.le_of_ble_eq_true rfl) (Nat.le_of_ble_eq_true rfl) (kr_e ?_) kx_e
  refine r_istore_n dX4_goesTo_5 (Nat.le_of_ble_eq_true rfl) ?_
  first | refine r_aload_n dX4_goesTo_6 rfl ?_ | refine r_aload_nq dX4_goesTo_6 rfl ?_ | refine r_aload_nN dX4_goesTo_6 rfl ?_
  refine r_dup dX4_goesTo_7 rfl ?_
  refine r_getfield 4 2 dX4_goesTo_8 rfl (Nat.le_of_ble_eq_true rfl) (lkA q877) (Or.inl rfl) (by first | exact Or.inl (by assumption) | assumption | (refine Or.inl ?_; repeat' first | assumption | exact hu_s | refine hu_o (by assumption) ?_ | refine (hu_n (by first | assumption | exact Ne.symm (by assumption) | exact ne_o (by assumption) (by assumption) | exact Ne.symm (ne_o (by assumption) (by assumption)))).trans ?_)) (by rfl) ?_
  refine r_iload_n dX4_goesTo_11 rfl ?_
  refine r_iadd dX4_goesTo_12 ?_
  refine r_put 4 2 dX4_goesTo_13 rfl (Nat.le_of_ble_eq_true rfl) (lkA q877) (Or.inl rfl) rfl (by repeat' first | assumption | exact hu_s | refine hu_o (by assumption) ?_ | refine (hu_n (by first | assumption | exact Ne.symm (by assumption) | exact ne_o (by assumption) (by assumption) | exact Ne.symm (ne_o (by assumption) (by assumption)))).trans ?_) (by dsimp only [List.set]) (Nat.le_of_ble_eq_true rfl) rfl rfl (by first | exact hu_hu | exact rfl) ?_
  first | refine r_aload_n dX4_goesTo_16 rfl ?_ | refine r_aload_nq dX4_goesTo_16 rfl ?_ | refine r_aload_nN dX4_goesTo_16 rfl ?_
  refine r_dup dX4_goesTo_17 rfl ?_
  refine r_getfield 4 6 dX4_goesTo_18 rfl (Nat.le_of_ble_eq_true rfl) (lkA q885) (Or.inl rfl) (by first | exact Or.inl (by assumption) | assumption | (refine Or.inl ?_; repeat' first | assumption | exact hu_s | refine hu_o (by assumption) ?_ | refine (hu_n (by first | assumption | exact Ne.symm (by assumption) | exact ne_o (by assumption) (by assumption) | exact Ne.symm (ne_o (by assumption) (by assumption)))).trans ?_)) (by rfl) ?_
  refine r_iload_n dX4_goesTo_21 rfl ?_
  refine r_iadd dX4_goesTo_22 ?_
  refine r_put 4 6 dX4_goesTo_23 rfl (Nat.le_of_ble_eq_true rfl) (lkA q885) (Or.inl rfl) rfl (by repeat' first | assumption | exact hu_s | refine hu_o (by assumption) ?_ | refine (hu_n (by first | assumption | exact Ne.symm (by assumption) | exact ne_o (by assumption) (by assumption) | exact Ne.symm (ne_o (by assumption) (by assumption)))).trans ?_) (by dsimp only [List.set]) (Nat.le_of_ble_eq_true rfl) rfl rfl (by first | exact hu_hu | exact rfl) ?_
  first | refine r_aload_n dX4_goesTo_26 rfl ?_ | refine r_aload_nq dX4_goesTo_26 rfl ?_ | refine r_aload_nN dX4_goesTo_26 rfl ?_
  refine r_iload_n dX4_goesTo_27 rfl ?_
  refine r_put 4 1 dX4_goesTo_28 rfl (Nat.le_of_ble_eq_true rfl) (lkA q875) (Or.inl rfl) rfl (by repeat' first | assumption | exact hu_s | refine hu_o (by assumption) ?_ | refine (hu_n (by first | assumption | exact Ne.symm (by assumption) | exact ne_o (by assumption) (by assumption) | exact Ne.symm (ne_o (by assumption) (by assumption)))).trans ?_) (by dsimp only [List.set]) (Nat.le_of_ble_eq_true rfl) rfl rfl (by first | exact hu_hu | exact rfl) ?_
  exact r_return dX4_goesTo_31 rfl (by first | exact ⟨rfl, rfl⟩ | rfl)

set_option maxHeartbeats 4000000 in
set_option maxRecDepth 100000 in
theorem sp_X4_roundsAgain {G : GG} {h : HP} {a : Nat} {c p w s b g : Int32} {r : Nat} {x : Int32} (ha : h a = some (bO 4 [.int c, .int p, .int w, .ref r, .int s, .int b, .int g])) (hz : ¬ 2 * iabs (p - x) = 0) : Ct G 3 0 M_X4_roundsAgain [.ref a, .int x] h (eQ (some (.int ((100 - w) / (2 * iabs (p - x))))) h) := by
  refine ct_intro my_X4_roundsAgain (Nat.le_of_ble_eq_true rfl) ?_
  refine r_bipush (v := 100) dX4_roundsAgain_0 rfl ?_
  first | refine r_aload_n dX4_roundsAgain_2 rfl ?_ | refine r_aload_nq dX4_roundsAgain_2 rfl ?_ | refine r_aload_nN dX4_roundsAgain_2 rfl ?_
  refine r_getfield 4 2 dX4_roundsAgain_3 rfl (Nat.le_of_ble_eq_true rfl) (lkA q877) (Or.inl rfl) (by first | exact Or.inl (by assumption) | assumption | (refine Or.inl ?_; repeat' first | assumption | exact hu_s | refine hu_o (by assumption) ?_ | refine (hu_n (by first | assumption | exact Ne.symm (by assumption) | exact ne_o (by assumption) (by assumption) | exact Ne.symm (ne_o (by assumption) (by assumption)))).trans ?_)) (by rfl) ?_
  refine r_isub dX4_roundsAgain_6 ?_
  refine r_iconst (v := 2) dX4_roundsAgain_7 rfl ?_
  first | refine r_aload_n dX4_roundsAgain_8 rfl ?_ | refine r_aload_nq dX4_roundsAgain_8 rfl ?_ | refine r_aload_nN dX4_roundsAgain_8 rfl ?_
  refine r_iload_n dX4_roundsAgain_9 rfl ?_
  refine r_invD (owner := "BrushSellers$Placed") dX4_roundsAgain_10 (sp_X7_houses ha) rfl mo_X7_houses (by first | exact Or.inl (by assumption) | assumption | (refine Or.inl ?_; repeat' first | assumption | exact hu_s | refine hu_o (by assumption) ?_ | refine (hu_n (by first | assumption | exact Ne.symm (by assumption) | exact ne_o (by assumption) (by assumption) | exact Ne.symm (ne_o (by assumption) (by assumption)))).trans ?_)) rfl nw_3 nw_6 q1258 ⟨by decide +kernel, by decide +kernel⟩ nw_8 (lkA q1260) rfl (show _ = some 1 from by decide +kernel) (lkA q102) mp_X7_houses (Nat.le_of_ble_eq_true rfl) (Nat.le_of_ble_eq_true rfl) (Nat.le_of_ble_eq_true rfl) (kr_e ?_) kx_e
  refine r_imul dX4_roundsAgain_13 ?_
  refine r_idiv dX4_roundsAgain_14 hz ?_
  exact r_ireturn dX4_roundsAgain_15 rfl (by first | rfl | exact bi_nar) (by first | exact ⟨rfl, rfl⟩ | rfl)

set_option maxHeartbeats 4000000 in
set_option maxRecDepth 100000 in
theorem sp_X4_init {G : GG} {h : HP} {a : Nat} {x : Int32} {x0 x1 x2 x3 x4 x5 x6 : Value} (ha : h a = some (bO 4 [x0, x1, x2, x3, x4, x5, x6])) : Ct G 1 4 M_X4_init [.ref a, .int x] h (rQ (fun v h' => v = none ∧ ∃ q, h q = none ∧ h' = hu (hu h q (bI 0 3 (fun _ => 0))) a (bO 4 [.int x, x1, x2, .ref q, x4, x5, x6]))) := by
  refine ct_intro my_X4_init (Nat.le_of_ble_eq_true rfl) ?_
  first | refine r_aload_n dX4_init_0 rfl ?_ | refine r_aload_nq dX4_init_0 rfl ?_ | refine r_aload_nN dX4_init_0 rfl ?_
  refine r_objinit (w1 := .tt) dX4_init_1 (lkA q872) (lkA q112) (lkA q113) (Nat.le_of_ble_eq_true rfl) (Nat.le_of_ble_eq_true rfl) ?_
  first | refine r_aload_n dX4_init_4 rfl ?_ | refine r_aload_nq dX4_init_4 rfl ?_ | refine r_aload_nN dX4_init_4 rfl ?_
  refine r_iconst (v := 3) dX4_init_5 rfl ?_
  refine r_newaI 3 dX4_init_6 (lkA q205) rfl (Nat.le_of_ble_eq_true rfl) (Nat.le_of_ble_eq_true rfl) (fun q6 hq6 => ?_)
  refine r_putF 4 3 dX4_init_8 rfl (Nat.le_of_ble_eq_true rfl) (lkA q879) rfl rfl rfl (by repeat' first | assumption | exact hu_s | refine hu_o (by assumption) ?_ | refine (hu_n (by first | assumption | exact Ne.symm (by assumption) | exact ne_o (by assumption) (by assumption) | exact Ne.symm (ne_o (by assumption) (by assumption)))).trans ?_) (by dsimp only [List.set]) (Nat.le_of_ble_eq_true rfl) rfl rfl (by first | exact hu_hu | exact rfl) ?_
  first | refine r_aload_n dX4_init_11 rfl ?_ | refine r_aload_nq dX4_init_11 rfl ?_ | refine r_aload_nN dX4_init_11 rfl ?_
  refine r_iload_n dX4_init_12 rfl ?_
  refine r_putF 4 0 dX4_init_13 rfl (Nat.le_of_ble_eq_true rfl) (lkA q873) rfl rfl rfl (by repeat' first | assumption | exact hu_s | refine hu_o (by assumption) ?_ | refine (hu_n (by first | assumption | exact Ne.symm (by assumption) | exact ne_o (by assumption) (by assumption) | exact Ne.symm (ne_o (by assumption) (by assumption)))).trans ?_) (by dsimp only [List.set]) (Nat.le_of_ble_eq_true rfl) rfl rfl (by first | exact hu_hu | exact rfl) ?_
  exact r_return dX4_init_16 rfl ⟨rfl, q6, hq6, rfl⟩

def f7 (a0 a1 a2 a3 a4 a5 a6 : Int32) : Nat → Int32 := fun k => match k with
  | 0 => a0
  | 1 => a1
  | 2 => a2
  | 3 => a3
  | 4 => a4
  | 5 => a5
  | 6 => a6
  | _ => -12
def f9 (c p w : Int32) (f : Nat → Int32) (s b g : Int32) : Nat → Int32 := fun k => match k with
  | 0 => c
  | 1 => p
  | 2 => w
  | 3 => f 0
  | 4 => f 1
  | 5 => f 2
  | 6 => s
  | 7 => b
  | 8 => g
  | _ => -12
/-- the k-th of n values, else BAD -/
def ofV (n : Int) (f : Nat → Int32) (k : Int32) : Int32 := if 0 ≤ k.toInt ∧ k.toInt ≤ n then f (tn k) else -12
theorem ofV_in {n : Int} {f : Nat → Int32} {k : Int32} (j : Nat) (hk : k.toInt = (j : Int)) (hj : (j : Int) ≤ n) : ofV n f k = f j := by
  unfold ofV
  rw [if_pos (by omega), show tn k = j by unfold tn; omega]
theorem ofV_out {n : Int} {f : Nat → Int32} {k : Int32} (hk : k.toInt < 0 ∨ n < k.toInt) : ofV n f k = -12 := by
  unfold ofV
  rw [if_neg (by omega)]
set_option maxHeartbeats 4000000 in
set_option maxRecDepth 100000 in
theorem sp_X4_value {G : GG} {h : HP} {a : Nat} {c p w s b g : Int32} {r : Nat} {x : Int32} {f : Nat → Int32} (ha : h a = some (bO 4 [.int c, .int p, .int w, .ref r, .int s, .int b, .int g])) (hr : h r = some (bI 0 3 f))  : Ct G 0 0 M_X4_value [.ref a, .int x] h (eQ (some (.int (ofV 8 (f9 c p w f s b g) x))) h) := by
  refine ct_intro my_X4_value (Nat.le_of_ble_eq_true rfl) ?_
  refine r_iload_n dX4_value_0 rfl ?_
  rcases (show x.toInt < 0 ∨ 8 < x.toInt ∨ x.toInt = 0 ∨ x.toInt = 1 ∨ x.toInt = 2 ∨ x.toInt = 3 ∨ x.toInt = 4 ∨ x.toInt = 5 ∨ x.toInt = 6 ∨ x.toInt = 7 ∨ x.toInt = 8 by omega) with hsw | hsw | hsw | hsw | hsw | hsw | hsw | hsw | hsw | hsw | hsw
  · refine r_tableOut 105 dX4_value_1 (Or.inl hsw) rfl ?_
    refine r_bipush (v := (-12)) dX4_value_105 rfl ?_
    exact r_ireturn dX4_value_107 rfl (by first | rfl | exact bi_nar) (by refine ⟨?_, rfl⟩; rw [ofV_out (Or.inl hsw)])
  · refine r_tableOut 105 dX4_value_1 (Or.inr hsw) rfl ?_
    refine r_bipush (v := (-12)) dX4_value_105 rfl ?_
    exact r_ireturn dX4_value_107 rfl (by first | rfl | exact bi_nar) (by refine ⟨?_, rfl⟩; rw [ofV_out (Or.inr hsw)])
  · obtain rfl : x = 0 := i32_eq.mpr hsw
    refine r_tableIn (off := 51) 52 dX4_value_1 (by decide) (by decide) rfl rfl ?_
    first | refine r_aload_n dX4_value_52 rfl ?_ | refine r_aload_nq dX4_value_52 rfl ?_ | refine r_aload_nN dX4_value_52 rfl ?_
    refine r_getfield 4 0 dX4_value_53 rfl (Nat.le_of_ble_eq_true rfl) (lkA q873) (Or.inl rfl) (by first | exact Or.inl (by assumption) | assumption | (refine Or.inl ?_; repeat' first | assumption | exact hu_s | refine hu_o (by assumption) ?_ | refine (hu_n (by first | assumption | exact Ne.symm (by assumption) | exact ne_o (by assumption) (by assumption) | exact Ne.symm (ne_o (by assumption) (by assumption)))).trans ?_)) (by rfl) ?_
    refine r_goto 107 dX4_value_56 rfl ?_
    exact r_ireturn dX4_value_107 rfl (by first | rfl | exact bi_nar) (by refine ⟨?_, rfl⟩; rw [ofV_in 0 rfl (by decide)]; rfl)
  · obtain rfl : x = 1 := i32_eq.mpr hsw
    refine r_tableIn (off := 58) 59 dX4_value_1 (by decide) (by decide) rfl rfl ?_
    first | refine r_aload_n dX4_value_59 rfl ?_ | refine r_aload_nq dX4_value_59 rfl ?_ | refine r_aload_nN dX4_value_59 rfl ?_
    refine r_getfield 4 1 dX4_value_60 rfl (Nat.le_of_ble_eq_true rfl) (lkA q875) (Or.inl rfl) (by first | exact Or.inl (by assumption) | assumption | (refine Or.inl ?_; repeat' first | assumption | exact hu_s | refine hu_o (by assumption) ?_ | refine (hu_n (by first | assumption | exact Ne.symm (by assumption) | exact ne_o (by assumption) (by assumption) | exact Ne.symm (ne_o (by assumption) (by assumption)))).trans ?_)) (by rfl) ?_
    refine r_goto 107 dX4_value_63 rfl ?_
    exact r_ireturn dX4_value_107 rfl (by first | rfl | exact bi_nar) (by refine ⟨?_, rfl⟩; rw [ofV_in 1 rfl (by decide)]; rfl)
  · obtain rfl : x = 2 := i32_eq.mpr hsw
    refine r_tableIn (off := 65) 66 dX4_value_1 (by decide) (by decide) rfl rfl ?_
    first | refine r_aload_n dX4_value_66 rfl ?_ | refine r_aload_nq dX4_value_66 rfl ?_ | refine r_aload_nN dX4_value_66 rfl ?_
    refine r_getfield 4 2 dX4_value_67 rfl (Nat.le_of_ble_eq_true rfl) (lkA q877) (Or.inl rfl) (by first | exact Or.inl (by assumption) | assumption | (refine Or.inl ?_; repeat' first | assumption | exact hu_s | refine hu_o (by assumption) ?_ | refine (hu_n (by first | assumption | exact Ne.symm (by assumption) | exact ne_o (by assumption) (by assumption) | exact Ne.symm (ne_o (by assumption) (by assumption)))).trans ?_)) (by rfl) ?_
    refine r_goto 107 dX4_value_70 rfl ?_
    exact r_ireturn dX4_value_107 rfl (by first | rfl | exact bi_nar) (by refine ⟨?_, rfl⟩; rw [ofV_in 2 rfl (by decide)]; rfl)
  · obtain rfl : x = 3 := i32_eq.mpr hsw
    refine r_tableIn (off := 72) 73 dX4_value_1 (by decide) (by decide) rfl rfl ?_
    first | refine r_aload_n dX4_value_73 rfl ?_ | refine r_aload_nq dX4_value_73 rfl ?_ | refine r_aload_nN dX4_value_73 rfl ?_
    refine r_getfield 4 3 dX4_value_74 rfl (Nat.le_of_ble_eq_true rfl) (lkA q879) (Or.inl rfl) (by first | exact Or.inl (by assumption) | assumption | (refine Or.inl ?_; repeat' first | assumption | exact hu_s | refine hu_o (by assumption) ?_ | refine (hu_n (by first | assumption | exact Ne.symm (by assumption) | exact ne_o (by assumption) (by assumption) | exact Ne.symm (ne_o (by assumption) (by assumption)))).trans ?_)) (by rfl) ?_
    refine r_iload_n dX4_value_77 rfl ?_
    refine r_iconst (v := 3) dX4_value_78 rfl ?_
    refine r_isub dX4_value_79 ?_
    refine r_iaload (0) dX4_value_80 (by first | exact Or.inl (by assumption) | assumption | (refine Or.inl ?_; repeat' first | assumption | exact hu_s | refine hu_o (by assumption) ?_ | refine (hu_n (by first | assumption | exact Ne.symm (by assumption) | exact ne_o (by assumption) (by assumption) | exact Ne.symm (ne_o (by assumption) (by assumption)))).trans ?_)) rfl (by decide) rfl ?_
    refine r_goto 107 dX4_value_81 rfl ?_
    exact r_ireturn dX4_value_107 rfl (by first | rfl | exact bi_nar) (by refine ⟨?_, rfl⟩; rw [ofV_in 3 rfl (by decide)]; rfl)
  · obtain rfl : x = 4 := i32_eq.mpr hsw
    refine r_tableIn (off := 72) 73 dX4_value_1 (by decide) (by decide) rfl rfl ?_
    first | refine r_aload_n dX4_value_73 rfl ?_ | refine r_aload_nq dX4_value_73 rfl ?_ | refine r_aload_nN dX4_value_73 rfl ?_
    refine r_getfield 4 3 dX4_value_74 rfl (Nat.le_of_ble_eq_true rfl) (lkA q879) (Or.inl rfl) (by first | exact Or.inl (by assumption) | assumption | (refine Or.inl ?_; repeat' first | assumption | exact hu_s | refine hu_o (by assumption) ?_ | refine (hu_n (by first | assumption | exact Ne.symm (by assumption) | exact ne_o (by assumption) (by assumption) | exact Ne.symm (ne_o (by assumption) (by assumption)))).trans ?_)) (by rfl) ?_
    refine r_iload_n dX4_value_77 rfl ?_
    refine r_iconst (v := 3) dX4_value_78 rfl ?_
    refine r_isub dX4_value_79 ?_
    refine r_iaload (1) dX4_value_80 (by first | exact Or.inl (by assumption) | assumption | (refine Or.inl ?_; repeat' first | assumption | exact hu_s | refine hu_o (by assumption) ?_ | refine (hu_n (by first | assumption | exact Ne.symm (by assumption) | exact ne_o (by assumption) (by assumption) | exact Ne.symm (ne_o (by assumption) (by assumption)))).trans ?_)) rfl (by decide) rfl ?_
    refine r_goto 107 dX4_value_81 rfl ?_
    exact r_ireturn dX4_value_107 rfl (by first | rfl | exact bi_nar) (by refine ⟨?_, rfl⟩; rw [ofV_in 4 rfl (by decide)]; rfl)
  · obtain rfl : x = 5 := i32_eq.mpr hsw
    refine r_tableIn (off := 72) 73 dX4_value_1 (by decide) (by decide) rfl rfl ?_
    first | refine r_aload_n dX4_value_73 rfl ?_ | refine r_aload_nq dX4_value_73 rfl ?_ | refine r_aload_nN dX4_value_73 rfl ?_
    refine r_getfield 4 3 dX4_value_74 rfl (Nat.le_of_ble_eq_true rfl) (lkA q879) (Or.inl rfl) (by first | exact Or.inl (by assumption) | assumption | (refine Or.inl ?_; repeat' first | assumption | exact hu_s | refine hu_o (by assumption) ?_ | refine (hu_n (by first | assumption | exact Ne.symm (by assumption) | exact ne_o (by assumption) (by assumption) | exact Ne.symm (ne_o (by assumption) (by assumption)))).trans ?_)) (by rfl) ?_
    refine r_iload_n dX4_value_77 rfl ?_
    refine r_iconst (v := 3) dX4_value_78 rfl ?_
    refine r_isub dX4_value_79 ?_
    refine r_iaload (2) dX4_value_80 (by first | exact Or.inl (by assumption) | assumption | (refine Or.inl ?_; repeat' first | assumption | exact hu_s | refine hu_o (by assumption) ?_ | refine (hu_n (by first | assumption | exact Ne.symm (by assumption) | exact ne_o (by assumption) (by assumption) | exact Ne.symm (ne_o (by assumption) (by assumption)))).trans ?_)) rfl (by decide) rfl ?_
    refine r_goto 107 dX4_value_81 rfl ?_
    exact r_ireturn dX4_value_107 rfl (by first | rfl | exact bi_nar) (by refine ⟨?_, rfl⟩; rw [ofV_in 5 rfl (by decide)]; rfl)
  · obtain rfl : x = 6 := i32_eq.mpr hsw
    refine r_tableIn (off := 83) 84 dX4_value_1 (by decide) (by decide) rfl rfl ?_
    first | refine r_aload_n dX4_value_84 rfl ?_ | refine r_aload_nq dX4_value_84 rfl ?_ | refine r_aload_nN dX4_value_84 rfl ?_
    refine r_getfield 4 4 dX4_value_85 rfl (Nat.le_of_ble_eq_true rfl) (lkA q881) (Or.inl rfl) (by first | exact Or.inl (by assumption) | assumption | (refine Or.inl ?_; repeat' first | assumption | exact hu_s | refine hu_o (by assumption) ?_ | refine (hu_n (by first | assumption | exact Ne.symm (by assumption) | exact ne_o (by assumption) (by assumption) | exact Ne.symm (ne_o (by assumption) (by assumption)))).trans ?_)) (by rfl) ?_
    refine r_goto 107 dX4_value_88 rfl ?_
    exact r_ireturn dX4_value_107 rfl (by first | rfl | exact bi_nar) (by refine ⟨?_, rfl⟩; rw [ofV_in 6 rfl (by decide)]; rfl)
  · obtain rfl : x = 7 := i32_eq.mpr hsw
    refine r_tableIn (off := 90) 91 dX4_value_1 (by decide) (by decide) rfl rfl ?_
    first | refine r_aload_n dX4_value_91 rfl ?_ | refine r_aload_nq dX4_value_91 rfl ?_ | refine r_aload_nN dX4_value_91 rfl ?_
    refine r_getfield 4 5 dX4_value_92 rfl (Nat.le_of_ble_eq_true rfl) (lkA q883) (Or.inl rfl) (by first | exact Or.inl (by assumption) | assumption | (refine Or.inl ?_; repeat' first | assumption | exact hu_s | refine hu_o (by assumption) ?_ | refine (hu_n (by first | assumption | exact Ne.symm (by assumption) | exact ne_o (by assumption) (by assumption) | exact Ne.symm (ne_o (by assumption) (by assumption)))).trans ?_)) (by rfl) ?_
    refine r_goto 107 dX4_value_95 rfl ?_
    exact r_ireturn dX4_value_107 rfl (by first | rfl | exact bi_nar) (by refine ⟨?_, rfl⟩; rw [ofV_in 7 rfl (by decide)]; rfl)
  · obtain rfl : x = 8 := i32_eq.mpr hsw
    refine r_tableIn (off := 97) 98 dX4_value_1 (by decide) (by decide) rfl rfl ?_
    first | refine r_aload_n dX4_value_98 rfl ?_ | refine r_aload_nq dX4_value_98 rfl ?_ | refine r_aload_nN dX4_value_98 rfl ?_
    refine r_getfield 4 6 dX4_value_99 rfl (Nat.le_of_ble_eq_true rfl) (lkA q885) (Or.inl rfl) (by first | exact Or.inl (by assumption) | assumption | (refine Or.inl ?_; repeat' first | assumption | exact hu_s | refine hu_o (by assumption) ?_ | refine (hu_n (by first | assumption | exact Ne.symm (by assumption) | exact ne_o (by assumption) (by assumption) | exact Ne.symm (ne_o (by assumption) (by assumption)))).trans ?_)) (by rfl) ?_
    refine r_goto 107 dX4_value_102 rfl ?_
    exact r_ireturn dX4_value_107 rfl (by first | rfl | exact bi_nar) (by refine ⟨?_, rfl⟩; rw [ofV_in 8 rfl (by decide)]; rfl)

set_option maxHeartbeats 4000000 in
set_option maxRecDepth 100000 in
theorem sp_X5_coins {G : GG} {h : HP} {a : Nat} {a0 a1 a2 a3 a4 a5 a6 : Int32} (ha : h a = some (bO 5 [.int a0, .int a1, .int a2, .int a3, .int a4, .int a5, .int a6])) : Ct G 0 0 M_X5_coins [.ref a] h (eQ (some (.int (a3 * a4))) h) := by
  refine ct_intro my_X5_coins (Nat.le_of_ble_eq_true rfl) ?_
  first | refine r_aload_n dX5_coins_0 rfl ?_ | refine r_aload_nq dX5_coins_0 rfl ?_ | refine r_aload_nN dX5_coins_0 rfl ?_
  refine r_getfield 5 3 dX5_coins_1 rfl (Nat.le_of_ble_eq_true rfl) (lkA q990) (Or.inl rfl) (by first | exact Or.inl (by assumption) | assumption | (refine Or.inl ?_; repeat' first | assumption | exact hu_s | refine hu_o (by assumption) ?_ | refine (hu_n (by first | assumption | exact Ne.symm (by assumption) | exact ne_o (by assumption) (by assumption) | exact Ne.symm (ne_o (by assumption) (by assumption)))).trans ?_)) (by rfl) ?_
  first | refine r_aload_n dX5_coins_4 rfl ?_ | refine r_aload_nq dX5_coins_4 rfl ?_ | refine r_aload_nN dX5_coins_4 rfl ?_
  refine r_getfield 5 4 dX5_coins_5 rfl (Nat.le_of_ble_eq_true rfl) (lkA q992) (Or.inl rfl) (by first | exact Or.inl (by assumption) | assumption | (refine Or.inl ?_; repeat' first | assumption | exact hu_s | refine hu_o (by assumption) ?_ | refine (hu_n (by first | assumption | exact Ne.symm (by assumption) | exact ne_o (by assumption) (by assumption) | exact Ne.symm (ne_o (by assumption) (by assumption)))).trans ?_)) (by rfl) ?_
  refine r_imul dX5_coins_8 ?_
  exact r_ireturn dX5_coins_9 rfl (by first | rfl | exact bi_nar) (by first | exact ⟨rfl, rfl⟩ | rfl)

set_option maxHeartbeats 4000000 in
set_option maxRecDepth 100000 in
theorem sp_X5_init {G : GG} {h : HP} {a : Nat} {a0 a1 a2 a3 a4 a5 : Int32} {x0 x1 x2 x3 x4 x5 x6 : Value} (ha : h a = some (bO 5 [x0, x1, x2, x3, x4, x5, x6])) : Ct G 1 0 M_X5_init [.ref a, .int a0, .int a1, .int a2, .int a3, .int a4, .int a5] h (eQ none (hu h a (bO 5 [.int a0, .int a1, .int a2, .int a3, .int a4, .int a5, x6]))) := by
  refine ct_intro my_X5_init (Nat.le_of_ble_eq_true rfl) ?_
  first | refine r_aload_n dX5_init_0 rfl ?_ | refine r_aload_nq dX5_init_0 rfl ?_ | refine r_aload_nN dX5_init_0 rfl ?_
  refine r_objinit (w1 := .tt) dX5_init_1 (lkA q983) (lkA q112) (lkA q113) (Nat.le_of_ble_eq_true rfl) (Nat.le_of_ble_eq_true rfl) ?_
  first | refine r_aload_n dX5_init_4 rfl ?_ | refine r_aload_nq dX5_init_4 rfl ?_ | refine r_aload_nN dX5_init_4 rfl ?_
  refine r_iload_n dX5_init_5 rfl ?_
  refine r_putF 5 0 dX5_init_6 rfl (Nat.le_of_ble_eq_true rfl) (lkA q984) rfl rfl rfl (by repeat' first | assumption | exact hu_s | refine hu_o (by assumption) ?_ | refine (hu_n (by first | assumption | exact Ne.symm (by assumption) | exact ne_o (by assumption) (by assumption) | exact Ne.symm (ne_o (by assumption) (by assumption)))).trans ?_) (by dsimp only [List.set]) (Nat.le_of_ble_eq_true rfl) rfl rfl (by first | exact hu_hu | exact rfl) ?_
  first | refine r_aload_n dX5_init_9 rfl ?_ | refine r_aload_nq dX5_init_9 rfl ?_ | refine r_aload_nN dX5_init_9 rfl ?_
  refine r_iload_n dX5_init_10 rfl ?_
  refine r_putF 5 1 dX5_init_11 rfl (Nat.le_of_ble_eq_true rfl) (lkA q986) rfl rfl rfl (by repeat' first | assumption | exact hu_s | refine hu_o (by assumption) ?_ | refine (hu_n (by first | assumption | exact Ne.symm (by assumption) | exact ne_o (by assumption) (by assumption) | exact Ne.symm (ne_o (by assumption) (by assumption)))).trans ?_) (by dsimp only [List.set]) (Nat.le_of_ble_eq_true rfl) rfl rfl (by first | exact hu_hu | exact rfl) ?_
  first | refine r_aload_n dX5_init_14 rfl ?_ | refine r_aload_nq dX5_init_14 rfl ?_ | refine r_aload_nN dX5_init_14 rfl ?_
  refine r_iload_n dX5_init_15 rfl ?_
  refine r_putF 5 2 dX5_init_16 rfl (Nat.le_of_ble_eq_true rfl) (lkA q988) rfl rfl rfl (by repeat' first | assumption | exact hu_s | refine hu_o (by assumption) ?_ | refine (hu_n (by first | assumption | exact Ne.symm (by assumption) | exact ne_o (by assumption) (by assumption) | exact Ne.symm (ne_o (by assumption) (by assumption)))).trans ?_) (by dsimp only [List.set]) (Nat.le_of_ble_eq_true rfl) rfl rfl (by first | exact hu_hu | exact rfl) ?_
  first | refine r_aload_n dX5_init_19 rfl ?_ | refine r_aload_nq dX5_init_19 rfl ?_ | refine r_aload_nN dX5_init_19 rfl ?_
  refine r_iload dX5_init_20 rfl ?_
  refine r_putF 5 3 dX5_init_22 rfl (Nat.le_of_ble_eq_true rfl) (lkA q990) rfl rfl rfl (by repeat' first | assumption | exact hu_s | refine hu_o (by assumption) ?_ | refine (hu_n (by first | assumption | exact Ne.symm (by assumption) | exact ne_o (by assumption) (by assumption) | exact Ne.symm (ne_o (by assumption) (by assumption)))).trans ?_) (by dsimp only [List.set]) (Nat.le_of_ble_eq_true rfl) rfl rfl (by first | exact hu_hu | exact rfl) ?_
  first | refine r_aload_n dX5_init_25 rfl ?_ | refine r_aload_nq dX5_init_25 rfl ?_ | refine r_aload_nN dX5_init_25 rfl ?_
  refine r_iload dX5_init_26 rfl ?_
  refine r_putF 5 4 dX5_init_28 rfl (Nat.le_of_ble_eq_true rfl) (lkA q992) rfl rfl rfl (by repeat' first | assumption | exact hu_s | refine hu_o (by assumption) ?_ | refine (hu_n (by first | assumption | exact Ne.symm (by assumption) | exact ne_o (by assumption) (by assumption) | exact Ne.symm (ne_o (by assumption) (by assumption)))).trans ?_) (by dsimp only [List.set]) (Nat.le_of_ble_eq_true rfl) rfl rfl (by first | exact hu_hu | exact rfl) ?_
  first | refine r_aload_n dX5_init_31 rfl ?_ | refine r_aload_nq dX5_init_31 rfl ?_ | refine r_aload_nN dX5_init_31 rfl ?_
  refine r_iload dX5_init_32 rfl ?_
  refine r_putF 5 5 dX5_init_34 rfl (Nat.le_of_ble_eq_true rfl) (lkA q993) rfl rfl rfl (by repeat' first | assumption | exact hu_s | refine hu_o (by assumption) ?_ | refine (hu_n (by first | assumption | exact Ne.symm (by assumption) | exact ne_o (by assumption) (by assumption) | exact Ne.symm (ne_o (by assumption) (by assumption)))).trans ?_) (by dsimp only [List.set]) (Nat.le_of_ble_eq_true rfl) rfl rfl (by first | exact hu_hu | exact rfl) ?_
  exact r_return dX5_init_37 rfl (by first | exact ⟨rfl, rfl⟩ | rfl)

set_option maxHeartbeats 4000000 in
set_option maxRecDepth 100000 in
theorem sp_X5_copy {G : GG} {h : HP} {a : Nat} {a0 a1 a2 a3 a4 a5 a6 : Int32} (ha : h a = some (bO 5 [.int a0, .int a1, .int a2, .int a3, .int a4, .int a5, .int a6])) (hb : a6 = 0 ∨ a6 = 1) : Ct G 2 8 M_X5_copy [.ref a] h (rQ (fun v h' => ∃ q, v = some (.ref q) ∧ h q = none ∧ h' = hu h q (bO 5 [.int a0, .int a1, .int a2, .int a3, .int a4, .int a5, .int a6]))) := by
  refine ct_intro my_X5_copy (Nat.le_of_ble_eq_true rfl) ?_
  refine r_new 5 [.int 0, .int 0, .int 0, .int 0, .int 0, .int 0, .int 0] dX5_copy_0 rfl (lkA q978) (lkA q979) (lkA q96) (fun j hj => match j, hj with | 0, _ => rfl | 1, _ => rfl | 2, _ => rfl | 3, _ => rfl | 4, _ => rfl | 5, _ => rfl | 6, _ => rfl | k + 7, hk => absurd hk (Nat.not_lt.mpr (Nat.le_add_left 7 k))) (Nat.le_of_ble_eq_true rfl) (fun q0 hq0 => ?_)
  refine r_dup dX5_copy_3 rfl ?_
  first | refine r_aload_n dX5_copy_4 rfl ?_ | refine r_aload_nq dX5_copy_4 rfl ?_ | refine r_aload_nN dX5_copy_4 rfl ?_
  refine r_getfield 5 0 dX5_copy_5 rfl (Nat.le_of_ble_eq_true rfl) (lkA q984) (Or.inl rfl) (by first | exact Or.inl (by assumption) | assumption | (refine Or.inl ?_; repeat' first | assumption | exact hu_s | refine hu_o (by assumption) ?_ | refine (hu_n (by first | assumption | exact Ne.symm (by assumption) | exact ne_o (by assumption) (by assumption) | exact Ne.symm (ne_o (by assumption) (by assumption)))).trans ?_)) (by rfl) ?_
  first | refine r_aload_n dX5_copy_8 rfl ?_ | refine r_aload_nq dX5_copy_8 rfl ?_ | refine r_aload_nN dX5_copy_8 rfl ?_
  refine r_getfield 5 1 dX5_copy_9 rfl (Nat.le_of_ble_eq_true rfl) (lkA q986) (Or.inl rfl) (by first | exact Or.inl (by assumption) | assumption | (refine Or.inl ?_; repeat' first | assumption | exact hu_s | refine hu_o (by assumption) ?_ | refine (hu_n (by first | assumption | exact Ne.symm (by assumption) | exact ne_o (by assumption) (by assumption) | exact Ne.symm (ne_o (by assumption) (by assumption)))).trans ?_)) (by rfl) ?_
  first | refine r_aload_n dX5_copy_12 rfl ?_ | refine r_aload_nq dX5_copy_12 rfl ?_ | refine r_aload_nN dX5_copy_12 rfl ?_
  refine r_getfield 5 2 dX5_copy_13 rfl (Nat.le_of_ble_eq_true rfl) (lkA q988) (Or.inl rfl) (by first | exact Or.inl (by assumption) | assumption | (refine Or.inl ?_; repeat' first | assumption | exact hu_s | refine hu_o (by assumption) ?_ | refine (hu_n (by first | assumption | exact Ne.symm (by assumption) | exact ne_o (by assumption) (by assumption) | exact Ne.symm (ne_o (by assumption) (by assumption)))).trans ?_)) (by rfl) ?_
  first | refine r_aload_n dX5_copy_16 rfl ?_ | refine r_aload_nq dX5_copy_16 rfl ?_ | refine r_aload_nN dX5_copy_16 rfl ?_
  refine r_getfield 5 3 dX5_copy_17 rfl (Nat.le_of_ble_eq_true rfl) (lkA q990) (Or.inl rfl) (by first | exact Or.inl (by assumption) | assumption | (refine Or.inl ?_; repeat' first | assumption | exact hu_s | refine hu_o (by assumption) ?_ | refine (hu_n (by first | assumption | exact Ne.symm (by assumption) | exact ne_o (by assumption) (by assumption) | exact Ne.symm (ne_o (by assumption) (by assumption)))).trans ?_)) (by rfl) ?_
  first | refine r_aload_n dX5_copy_20 rfl ?_ | refine r_aload_nq dX5_copy_20 rfl ?_ | refine r_aload_nN dX5_copy_20 rfl ?_
  refine r_getfield 5 4 dX5_copy_21 rfl (Nat.le_of_ble_eq_true rfl) (lkA q992) (Or.inl rfl) (by first | exact Or.inl (by assumption) | assumption | (refine Or.inl ?_; repeat' first | assumption | exact hu_s | refine hu_o (by assumption) ?_ | refine (hu_n (by first | assumption | exact Ne.symm (by assumption) | exact ne_o (by assumption) (by assumption) | exact Ne.symm (ne_o (by assumption) (by assumption)))).trans ?_)) (by rfl) ?_
  first | refine r_aload_n dX5_copy_24 rfl ?_ | refine r_aload_nq dX5_copy_24 rfl ?_ | refine r_aload_nN dX5_copy_24 rfl ?_
  refine r_getfield 5 5 dX5_copy_25 rfl (Nat.le_of_ble_eq_true rfl) (lkA q993) (Or.inl rfl) (by first | exact Or.inl (by assumption) | assumption | (refine Or.inl ?_; repeat' first | assumption | exact hu_s | refine hu_o (by assumption) ?_ | refine (hu_n (by first | assumption | exact Ne.symm (by assumption) | exact ne_o (by assumption) (by assumption) | exact Ne.symm (ne_o (by assumption) (by assumption)))).trans ?_)) (by rfl) ?_
  refine r_invI dX5_copy_28 (sp_X5_init hu_s) rfl mo_X5_init (lkA q980) (lkA q981) rfl rfl rfl (lkA q96) mp_X5_init (Nat.le_of_ble_eq_true rfl) (Nat.le_of_ble_eq_true rfl) (Nat.le_of_ble_eq_true rfl) (kr_e ?_) kx_e
  try simp only [hu_hu]
  first | refine r_astore_n dX5_copy_31 (Nat.le_of_ble_eq_true rfl) ?_ | refine r_astore_nq dX5_copy_31 (Nat.le_of_ble_eq_true rfl) ?_ | refine r_astore_nN dX5_copy_31 (Nat.le_of_ble_eq_true rfl) ?_
  first | refine r_aload_n dX5_copy_32 rfl ?_ | refine r_aload_nq dX5_copy_32 rfl ?_ | refine r_aload_nN dX5_copy_32 rfl ?_
  first | refine r_aload_n dX5_copy_33 rfl ?_ | refine r_aload_nq dX5_copy_33 rfl ?_ | refine r_aload_nN dX5_copy_33 rfl ?_
  refine r_getfield 5 6 dX5_copy_34 rfl (Nat.le_of_ble_eq_true rfl) (lkA q995) (Or.inl rfl) (by first | exact Or.inl (by assumption) | assumption | (refine Or.inl ?_; repeat' first | assumption | exact hu_s | refine hu_o (by assumption) ?_ | refine (hu_n (by first | assumption | exact Ne.symm (by assumption) | exact ne_o (by assumption) (by assumption) | exact Ne.symm (ne_o (by assumption) (by assumption)))).trans ?_)) (by rfl) ?_
  refine r_put 5 6 dX5_copy_37 rfl (Nat.le_of_ble_eq_true rfl) (lkA q995) (Or.inl rfl) rfl (by repeat' first | assumption | exact hu_s | refine hu_o (by assumption) ?_ | refine (hu_n (by first | assumption | exact Ne.symm (by assumption) | exact ne_o (by assumption) (by assumption) | exact Ne.symm (ne_o (by assumption) (by assumption)))).trans ?_) (by dsimp only [List.set]) (Nat.le_of_ble_eq_true rfl) (by rcases hb with rfl | rfl <;> rfl) (by rcases hb with rfl | rfl <;> rfl) (by first | exact hu_hu | exact rfl) ?_
  first | refine r_aload_n dX5_copy_40 rfl ?_ | refine r_aload_nq dX5_copy_40 rfl ?_ | refine r_aload_nN dX5_copy_40 rfl ?_
  first | exact r_areturn dX5_copy_41 rfl rfl ⟨q0, rfl, hq0, rfl⟩ | exact r_areturnq dX5_copy_41 rfl rfl ⟨q0, rfl, hq0, rfl⟩ | exact r_areturnN dX5_copy_41 rfl rfl ⟨q0, rfl, hq0, rfl⟩

set_option maxHeartbeats 4000000 in
set_option maxRecDepth 100000 in
theorem sp_X5_value {G : GG} {h : HP} {a : Nat} {a0 a1 a2 a3 a4 a5 a6 : Int32} {x : Int32} (ha : h a = some (bO 5 [.int a0, .int a1, .int a2, .int a3, .int a4, .int a5, .int a6])) (hb : a6 = 0 ∨ a6 = 1) : Ct G 0 0 M_X5_value [.ref a, .int x] h (eQ (some (.int (ofV 6 (f7 a0 a1 a2 a3 a4 a5 a6) x))) h) := by
  refine ct_intro my_X5_value (Nat.le_of_ble_eq_true rfl) ?_
  refine r_iload_n dX5_value_0 rfl ?_
  rcases (show x.toInt < 0 ∨ 6 < x.toInt ∨ x.toInt = 0 ∨ x.toInt = 1 ∨ x.toInt = 2 ∨ x.toInt = 3 ∨ x.toInt = 4 ∨ x.toInt = 5 ∨ x.toInt = 6 by omega) with hsw | hsw | hsw | hsw | hsw | hsw | hsw | hsw | hsw
  · refine r_tableOut 101 dX5_value_1 (Or.inl hsw) rfl ?_
    refine r_bipush (v := (-12)) dX5_value_101 rfl ?_
    exact r_ireturn dX5_value_103 rfl (by first | rfl | exact bi_nar) (by refine ⟨?_, rfl⟩; rw [ofV_out (Or.inl hsw)])
  · refine r_tableOut 101 dX5_value_1 (Or.inr hsw) rfl ?_
    refine r_bipush (v := (-12)) dX5_value_101 rfl ?_
    exact r_ireturn dX5_value_103 rfl (by first | rfl | exact bi_nar) (by refine ⟨?_, rfl⟩; rw [ofV_out (Or.inr hsw)])
  · obtain rfl : x = 0 := i32_eq.mpr hsw
    refine r_tableIn (off := 43) 44 dX5_value_1 (by decide) (by decide) rfl rfl ?_
    first | refine r_aload_n dX5_value_44 rfl ?_ | refine r_aload_nq dX5_value_44 rfl ?_ | refine r_aload_nN dX5_value_44 rfl ?_
    refine r_getfield 5 0 dX5_value_45 rfl (Nat.le_of_ble_eq_true rfl) (lkA q984) (Or.inl rfl) (by first | exact Or.inl (by assumption) | assumption | (refine Or.inl ?_; repeat' first | assumption | exact hu_s | refine hu_o (by assumption) ?_ | refine (hu_n (by first | assumption | exact Ne.symm (by assumption) | exact ne_o (by assumption) (by assumption) | exact Ne.symm (ne_o (by assumption) (by assumption)))).trans ?_)) (by rfl) ?_
    refine r_goto 103 dX5_value_48 rfl ?_
    exact r_ireturn dX5_value_103 rfl (by first | rfl | exact bi_nar) (by refine ⟨?_, rfl⟩; rw [ofV_in 0 rfl (by decide)]; rfl)
  · obtain rfl : x = 1 := i32_eq.mpr hsw
    refine r_tableIn (off := 50) 51 dX5_value_1 (by decide) (by decide) rfl rfl ?_
    first | refine r_aload_n dX5_value_51 rfl ?_ | refine r_aload_nq dX5_value_51 rfl ?_ | refine r_aload_nN dX5_value_51 rfl ?_
    refine r_getfield 5 1 dX5_value_52 rfl (Nat.le_of_ble_eq_true rfl) (lkA q986) (Or.inl rfl) (by first | exact Or.inl (by assumption) | assumption | (refine Or.inl ?_; repeat' first | assumption | exact hu_s | refine hu_o (by assumption) ?_ | refine (hu_n (by first | assumption | exact Ne.symm (by assumption) | exact ne_o (by assumption) (by assumption) | exact Ne.symm (ne_o (by assumption) (by assumption)))).trans ?_)) (by rfl) ?_
    refine r_goto 103 dX5_value_55 rfl ?_
    exact r_ireturn dX5_value_103 rfl (by first | rfl | exact bi_nar) (by refine ⟨?_, rfl⟩; rw [ofV_in 1 rfl (by decide)]; rfl)
  · obtain rfl : x = 2 := i32_eq.mpr hsw
    refine r_tableIn (off := 57) 58 dX5_value_1 (by decide) (by decide) rfl rfl ?_
    first | refine r_aload_n dX5_value_58 rfl ?_ | refine r_aload_nq dX5_value_58 rfl ?_ | refine r_aload_nN dX5_value_58 rfl ?_
    refine r_getfield 5 2 dX5_value_59 rfl (Nat.le_of_ble_eq_true rfl) (lkA q988) (Or.inl rfl) (by first | exact Or.inl (by assumption) | assumption | (refine Or.inl ?_; repeat' first | assumption | exact hu_s | refine hu_o (by assumption) ?_ | refine (hu_n (by first | assumption | exact Ne.symm (by assumption) | exact ne_o (by assumption) (by assumption) | exact Ne.symm (ne_o (by assumption) (by assumption)))).trans ?_)) (by rfl) ?_
    refine r_goto 103 dX5_value_62 rfl ?_
    exact r_ireturn dX5_value_103 rfl (by first | rfl | exact bi_nar) (by refine ⟨?_, rfl⟩; rw [ofV_in 2 rfl (by decide)]; rfl)
  · obtain rfl : x = 3 := i32_eq.mpr hsw
    refine r_tableIn (off := 64) 65 dX5_value_1 (by decide) (by decide) rfl rfl ?_
    first | refine r_aload_n dX5_value_65 rfl ?_ | refine r_aload_nq dX5_value_65 rfl ?_ | refine r_aload_nN dX5_value_65 rfl ?_
    refine r_getfield 5 3 dX5_value_66 rfl (Nat.le_of_ble_eq_true rfl) (lkA q990) (Or.inl rfl) (by first | exact Or.inl (by assumption) | assumption | (refine Or.inl ?_; repeat' first | assumption | exact hu_s | refine hu_o (by assumption) ?_ | refine (hu_n (by first | assumption | exact Ne.symm (by assumption) | exact ne_o (by assumption) (by assumption) | exact Ne.symm (ne_o (by assumption) (by assumption)))).trans ?_)) (by rfl) ?_
    refine r_goto 103 dX5_value_69 rfl ?_
    exact r_ireturn dX5_value_103 rfl (by first | rfl | exact bi_nar) (by refine ⟨?_, rfl⟩; rw [ofV_in 3 rfl (by decide)]; rfl)
  · obtain rfl : x = 4 := i32_eq.mpr hsw
    refine r_tableIn (off := 71) 72 dX5_value_1 (by decide) (by decide) rfl rfl ?_
    first | refine r_aload_n dX5_value_72 rfl ?_ | refine r_aload_nq dX5_value_72 rfl ?_ | refine r_aload_nN dX5_value_72 rfl ?_
    refine r_getfield 5 4 dX5_value_73 rfl (Nat.le_of_ble_eq_true rfl) (lkA q992) (Or.inl rfl) (by first | exact Or.inl (by assumption) | assumption | (refine Or.inl ?_; repeat' first | assumption | exact hu_s | refine hu_o (by assumption) ?_ | refine (hu_n (by first | assumption | exact Ne.symm (by assumption) | exact ne_o (by assumption) (by assumption) | exact Ne.symm (ne_o (by assumption) (by assumption)))).trans ?_)) (by rfl) ?_
    refine r_goto 103 dX5_value_76 rfl ?_
    exact r_ireturn dX5_value_103 rfl (by first | rfl | exact bi_nar) (by refine ⟨?_, rfl⟩; rw [ofV_in 4 rfl (by decide)]; rfl)
  · obtain rfl : x = 5 := i32_eq.mpr hsw
    refine r_tableIn (off := 78) 79 dX5_value_1 (by decide) (by decide) rfl rfl ?_
    first | refine r_aload_n dX5_value_79 rfl ?_ | refine r_aload_nq dX5_value_79 rfl ?_ | refine r_aload_nN dX5_value_79 rfl ?_
    refine r_getfield 5 5 dX5_value_80 rfl (Nat.le_of_ble_eq_true rfl) (lkA q993) (Or.inl rfl) (by first | exact Or.inl (by assumption) | assumption | (refine Or.inl ?_; repeat' first | assumption | exact hu_s | refine hu_o (by assumption) ?_ | refine (hu_n (by first | assumption | exact Ne.symm (by assumption) | exact ne_o (by assumption) (by assumption) | exact Ne.symm (ne_o (by assumption) (by assumption)))).trans ?_)) (by rfl) ?_
    refine r_goto 103 dX5_value_83 rfl ?_
    exact r_ireturn dX5_value_103 rfl (by first | rfl | exact bi_nar) (by refine ⟨?_, rfl⟩; rw [ofV_in 5 rfl (by decide)]; rfl)
  · obtain rfl : x = 6 := i32_eq.mpr hsw
    refine r_tableIn (off := 85) 86 dX5_value_1 (by decide) (by decide) rfl rfl ?_
    first | refine r_aload_n dX5_value_86 rfl ?_ | refine r_aload_nq dX5_value_86 rfl ?_ | refine r_aload_nN dX5_value_86 rfl ?_
    refine r_getfield 5 6 dX5_value_87 rfl (Nat.le_of_ble_eq_true rfl) (lkA q995) (Or.inl rfl) (by first | exact Or.inl (by assumption) | assumption | (refine Or.inl ?_; repeat' first | assumption | exact hu_s | refine hu_o (by assumption) ?_ | refine (hu_n (by first | assumption | exact Ne.symm (by assumption) | exact ne_o (by assumption) (by assumption) | exact Ne.symm (ne_o (by assumption) (by assumption)))).trans ?_)) (by rfl) ?_
    refine r_if_eq 97 dX5_value_90 rfl (fun c90 => ?_) (fun c90 => ?_)
    · refine r_iconst (v := 0) dX5_value_97 rfl ?_
      refine r_goto 103 dX5_value_98 rfl ?_
      exact r_ireturn dX5_value_103 rfl (by first | rfl | exact bi_nar) (by refine ⟨?_, rfl⟩; rw [ofV_in 6 rfl (by decide)]; rcases hb with rfl | rfl; (first | rfl | exact absurd rfl c90); (first | rfl | exact absurd c90 (by decide)))
    · refine r_iconst (v := 1) dX5_value_93 rfl ?_
      refine r_goto 103 dX5_value_94 rfl ?_
      exact r_ireturn dX5_value_103 rfl (by first | rfl | exact bi_nar) (by refine ⟨?_, rfl⟩; rw [ofV_in 6 rfl (by decide)]; rcases hb with rfl | rfl; (first | rfl | exact absurd rfl c90); (first | rfl | exact absurd c90 (by decide)))

