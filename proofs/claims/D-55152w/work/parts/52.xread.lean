set_option maxRecDepth 100000
theorem iabs_0 {x y : Int32} (hx : 0 ≤ x.toInt ∧ x.toInt ≤ 19) (hy : 0 ≤ y.toInt ∧ y.toInt ≤ 19) (hne : ¬ x = y) : 1 ≤ (iabs (x - y)).toInt := by
  have h0 : (0 : Int32).toInt = 0 := rfl
  have hn : x.toInt ≠ y.toInt := fun e => hne (i32_eq.mpr e)
  have e1 : (x - y).toInt = x.toInt - y.toInt := by rw [tI_sub, if_pos (by omega)]
  have e3 : (0 - (x - y)).toInt = y.toInt - x.toInt := by rw [tI_sub, e1, h0, if_pos (by omega)]; omega
  unfold iabs
  by_cases a : (0 : Int32) ≤ x - y
  · rw [if_pos a]
    rw [Int32.le_iff_toInt_le] at a
    omega
  · rw [if_neg a]
    rw [Int32.le_iff_toInt_le] at a
    omega
theorem rounds_v {p y w : Int32} (hp : 0 ≤ p.toInt ∧ p.toInt ≤ 19) (hy : 0 ≤ y.toInt ∧ y.toInt ≤ 19) (hw : 0 ≤ w.toInt ∧ w.toInt ≤ 100) (hne : ¬ p = y) : ∃ (H : Int) (N : Nat), (2 * iabs (p - y)).toInt = H ∧ 0 < H ∧ H ≤ 38 ∧ w.toInt + H * (N : Int) ≤ 100 ∧ 100 < w.toInt + H * (N : Int) + H ∧ N < 1000 ∧ nI N = (100 - w) / (2 * iabs (y - p)) ∧ ¬ 2 * iabs (y - p) = 0 ∧ ¬ 2 * iabs (p - y) = 0 ∧ (100 - w) / (2 * iabs (p - y)) = (100 - w) / (2 * iabs (y - p)) := by
  have ec : iabs (y - p) = iabs (p - y) := iabs_c (by omega) (by omega)
  have h1 := iabs_0 hp hy hne
  have h2 := (iabs_r hp hy).2
  rw [ec]
  generalize iabs (p - y) = k at h1 h2
  have e2 : (2 : Int32).toInt = 2 := rfl
  have e100 : (100 : Int32).toInt = 100 := rfl
  have hk : (2 * k).toInt = 2 * k.toInt := by rw [tI_mul, e2, if_pos (by omega)]
  have hd : (100 - w).toInt = 100 - w.toInt := by rw [tI_sub, e100, if_pos (by omega)]
  have h0 : (0 : Int32).toInt = 0 := rfl
  have nz : ¬ 2 * k = 0 := fun e => by
    have := i32_eq.mp e
    omega
  have hv : ((100 - w) / (2 * k)).toInt = (100 - w.toInt) / (2 * k.toInt) := by
    rw [Int32.toInt_div_of_ne_right _ _ (fun e => by
      have := i32_eq.mp e
      have h9 : (-1 : Int32).toInt = -1 := rfl
      omega), hd, hk, Int.tdiv_eq_ediv_of_nonneg (by omega)]
  refine ⟨2 * k.toInt, ((100 - w.toInt) / (2 * k.toInt)).toNat, hk, by omega, by omega, ?_⟩
  generalize hK : k.toInt = K at *
  have hq : 0 ≤ (100 - w.toInt) / (2 * K) ∧ (100 - w.toInt) / (2 * K) ≤ 100 ∧ w.toInt + 2 * K * ((100 - w.toInt) / (2 * K)) ≤ 100 ∧ 100 < w.toInt + 2 * K * ((100 - w.toInt) / (2 * K)) + 2 * K := by
    rcases (show K = 1 ∨ K = 2 ∨ K = 3 ∨ K = 4 ∨ K = 5 ∨ K = 6 ∨ K = 7 ∨ K = 8 ∨ K = 9 ∨ K = 10 ∨ K = 11 ∨ K = 12 ∨ K = 13 ∨ K = 14 ∨ K = 15 ∨ K = 16 ∨ K = 17 ∨ K = 18 ∨ K = 19 by omega) with rfl | rfl | rfl | rfl | rfl | rfl | rfl | rfl | rfl | rfl | rfl | rfl | rfl | rfl | rfl | rfl | rfl | rfl | rfl <;> omega
  obtain ⟨q0, q1, q2, q3⟩ := hq
  generalize (100 - w.toInt) / (2 * K) = q at *
  have hqn : ((q.toNat : Nat) : Int) = q := by omega
  refine ⟨by rw [hqn]; exact q2, by rw [hqn]; exact q3, by omega, ?_, nz, nz, rfl⟩
  rw [i32_eq, nIn (by omega), hv, hqn]
theorem fl_r {G : GG} {d c : Nat} {M : Mt} {As : List Value} {h : HP} {v v2 : Option Value} (hv : v = v2) (e : Ct G d c M As h (eQ v h)) : Ct G d c M As h (eQ v2 h) := by rw [← hv]; exact e
theorem tn_lt {x z : Int32} (h : x.toInt = (tn x : Int)) (h2 : (tn x : Int) < z.toInt) : tn x < tn z := by
  unfold tn at *
  omega
theorem selV {w : Nat → Int32} {s : Nat} {k : Int32} : ofV 8 (f9 (w (17 + 9 * s)) (w (17 + 9 * s + 1)) (w (17 + 9 * s + 2)) (fBr w s) (w (17 + 9 * s + 6)) (w (17 + 9 * s + 7)) (w (17 + 9 * s + 8))) k = if isn k 0 8 = true then gSl w s (tn k) else -12 := by
  have e0 : (0 : Int32).toInt = 0 := rfl
  have e8 : (8 : Int32).toInt = 8 := rfl
  by_cases e : isn k 0 8 = true
  · rw [if_pos e]
    have h := isn_t.mp e
    obtain ⟨j, hj⟩ : ∃ j, tn k = j := ⟨_, rfl⟩
    have hkj : k.toInt = (j : Int) := by unfold tn at hj; omega
    rw [ofV_in j hkj (by omega), hj]
    match j, (show j < 9 by omega) with
    | 0, _ => rfl
    | 1, _ => rfl
    | 2, _ => rfl
    | 3, _ => rfl
    | 4, _ => rfl
    | 5, _ => rfl
    | 6, _ => rfl
    | 7, _ => rfl
    | 8, _ => rfl
  · rw [if_neg e, ofV_out]
    have := isn_f.mp (Bool.eq_false_iff.mpr e)
    omega
theorem salV {w : Nat → Int32} {i : Nat} {k : Int32} : ofV 6 (f7 (w (133 + 7 * i)) (w (133 + 7 * i + 1)) (w (133 + 7 * i + 2)) (w (133 + 7 * i + 3)) (w (133 + 7 * i + 4)) (w (133 + 7 * i + 5)) (w (133 + 7 * i + 6))) k = if isn k 0 6 = true then gSa w i (tn k) else -12 := by
  have e0 : (0 : Int32).toInt = 0 := rfl
  have e8 : (6 : Int32).toInt = 6 := rfl
  by_cases e : isn k 0 6 = true
  · rw [if_pos e]
    have h := isn_t.mp e
    obtain ⟨j, hj⟩ : ∃ j, tn k = j := ⟨_, rfl⟩
    have hkj : k.toInt = (j : Int) := by unfold tn at hj; omega
    rw [ofV_in j hkj (by omega), hj]
    match j, (show j < 7 by omega) with
    | 0, _ => rfl
    | 1, _ => rfl
    | 2, _ => rfl
    | 3, _ => rfl
    | 4, _ => rfl
    | 5, _ => rfl
    | 6, _ => rfl
  · rw [if_neg e, ofV_out]
    have := isn_f.mp (Bool.eq_false_iff.mpr e)
    omega
theorem houV {w : Nat → Int32} {m : Nat} {x k : Int32} (hx : nI m = x) : ofV 4 (f5 (gSteps (nI m)) (w (53 + 4 * m)) (gDg w m) (w (53 + 4 * m + 2)) (w (53 + 4 * m + 3))) k = if 0 ≤ k.toInt ∧ k.toInt ≤ 4 then hOf w m x (tn k) else -12 := by
  by_cases e : 0 ≤ k.toInt ∧ k.toInt ≤ 4
  · rw [if_pos e]
    obtain ⟨j, hj⟩ : ∃ j, tn k = j := ⟨_, rfl⟩
    have hkj : k.toInt = (j : Int) := by unfold tn at hj; omega
    rw [ofV_in j hkj (by omega), hj, hx]
    match j, (show j < 5 by omega) with
    | 0, _ => rfl
    | 1, _ => rfl
    | 2, _ => rfl
    | 3, _ => rfl
    | 4, _ => rfl
  · rw [if_neg e, ofV_out]
    omega
set_option maxHeartbeats 4000000 in
set_option maxRecDepth 100000 in
theorem sp_X0_sellerOf {G : GG} {h : HP} (hK : KS G) {X D R hd u : Nat} {aS : Nat → Nat → Nat} {wS : Nat → Nat → Int32} {sv : Bool} {rs dt : Int32} {tx la : Nat} (hO : CO X D R hd u aS sv rs dt tx la h) (hC : CS aS wS u sv h) {D9 : Int} (hI : Inv D9 (wS 0)) {x y : Int32} : Ct G 8 40 M_X0_sellerOf [.ref X, .int x, .int y] h (rQ (fun v h' => v = some (.int (oSellerOf (wS 0) x y)) ∧ Ext h h')) := by
  refine ct_intro my_X0_sellerOf (Nat.le_of_ble_eq_true rfl) ?_
  have hX := hO.1
  have S0 := (hC.1 0 (Or.inl rfl)).1
  have I0 := (hC.1 0 (Or.inl rfl)).2
  obtain ⟨hw2, hw24, hw3, hw34, h6⟩ := inv_w hI
  first | refine r_aload_n dX0_sellerOf_0 rfl ?_ | refine r_aload_nq dX0_sellerOf_0 rfl ?_ | refine r_aload_nN dX0_sellerOf_0 rfl ?_
  refine r_getfield 0 0 dX0_sellerOf_1 rfl (Nat.le_of_ble_eq_true rfl) (lkA q404) (Or.inl rfl) (Or.inl hX) (by rfl) ?_
  refine r_iload_n dX0_sellerOf_4 rfl ?_
  refine r_invV dX0_sellerOf_5 (fl_e S0 (sp_X1_isSeller (h := h) I0 (x := x))) rfl mo_X1_isSeller (Or.inl (s_0 S0)) rfl (lkA q1161) (lkA q1162) (lkA q1163) rfl (lkA q65) mp_X1_isSeller (Nat.le_of_ble_eq_true rfl) (Nat.le_of_ble_eq_true rfl) (Nat.le_of_ble_eq_true rfl) (kr_e ?_) kx_e
  refine r_if_eq 32 dX0_sellerOf_8 rfl (fun c8 => ?_) (fun c8 => ?_)
  · refine r_bipush (v := (-11)) dX0_sellerOf_32 rfl ?_
    exact r_ireturn dX0_sellerOf_34 rfl (by first | rfl | exact bi_nar) ⟨congrArg (fun z => some (Value.int z)) (by unfold oSellerOf; rw [if_neg (by rw [bi_0.mp c8]; decide)]), Ext.rf⟩
  · first | refine r_aload_n dX0_sellerOf_11 rfl ?_ | refine r_aload_nq dX0_sellerOf_11 rfl ?_ | refine r_aload_nN dX0_sellerOf_11 rfl ?_
    refine r_getfield 0 0 dX0_sellerOf_12 rfl (Nat.le_of_ble_eq_true rfl) (lkA q404) (Or.inl rfl) (Or.inl hX) (by rfl) ?_
    refine r_getfieldN 1 1 dX0_sellerOf_15 rfl (Nat.le_of_ble_eq_true rfl) (lkT q299 rfl) (Or.inl rfl) (Or.inl (s_0 S0)) (by rfl) ?_
    refine r_iload_n dX0_sellerOf_18 rfl ?_
    refine r_invV dX0_sellerOf_19 (sp_J2_get (s_3 S0) (s_4 S0) (isS_of hI c8).2.1 (isS_of hI c8).2.2.2 (isS_of hI c8).2.2.1 (fSs_at (tn_lt (isS_of hI c8).2.1 (isS_of hI c8).2.2.2))) rfl mo_J2_get (Or.inl (s_3 S0)) rfl (lkA q1211) (lkA q441) (lkA q442) rfl (lkA q68) mp_J2_get (Nat.le_of_ble_eq_true rfl) (Nat.le_of_ble_eq_true rfl) (Nat.le_of_ble_eq_true rfl) (kr_e ?_) kx_e
    refine r_castS dX0_sellerOf_22 (Or.inl (s_s S0 (tn x) (isS_of hI c8).2.2.1 (tn_lt (isS_of hI c8).2.1 (isS_of hI c8).2.2.2))) rfl (lkA q1212) ?_
    refine r_iload_n dX0_sellerOf_25 rfl ?_
    refine r_invV dX0_sellerOf_26 (fl_r (congrArg (fun z => some (Value.int z)) selV) (sp_X4_value (s_s S0 (tn x) (isS_of hI c8).2.2.1 (tn_lt (isS_of hI c8).2.1 (isS_of hI c8).2.2.2)) (s_r S0 (tn x) (isS_of hI c8).2.2.1 (tn_lt (isS_of hI c8).2.1 (isS_of hI c8).2.2.2)))) rfl mo_X4_value (Or.inl (s_s S0 (tn x) (isS_of hI c8).2.2.1 (tn_lt (isS_of hI c8).2.1 (isS_of hI c8).2.2.2))) rfl (lkA q1213) (lkA q1214) (lkA q1215) rfl (lkA q91) mp_X4_value (Nat.le_of_ble_eq_true rfl) (Nat.le_of_ble_eq_true rfl) (Nat.le_of_ble_eq_true rfl) (kr_e ?_) kx_e
    refine r_goto 34 dX0_sellerOf_29 rfl ?_
    exact r_ireturn dX0_sellerOf_34 rfl (by first | rfl | exact bi_nar) ⟨congrArg (fun z => some (Value.int z)) (by unfold oSellerOf; rw [if_pos (bi_n0.mp c8)]), Ext.rf⟩

set_option maxHeartbeats 4000000 in
set_option maxRecDepth 100000 in
theorem sp_X0_houseOf {G : GG} {h : HP} (hK : KS G) {X D R hd u : Nat} {aS : Nat → Nat → Nat} {wS : Nat → Nat → Int32} {sv : Bool} {rs dt : Int32} {tx la : Nat} (hO : CO X D R hd u aS sv rs dt tx la h) (hC : CS aS wS u sv h) {D9 : Int} (hI : Inv D9 (wS 0)) {x y : Int32} : Ct G 8 40 M_X0_houseOf [.ref X, .int x, .int y] h (rQ (fun v h' => v = some (.int (oHouseOf (wS 0) x y)) ∧ Ext h h')) := by
  refine ct_intro my_X0_houseOf (Nat.le_of_ble_eq_true rfl) ?_
  have hX := hO.1
  have S0 := (hC.1 0 (Or.inl rfl)).1
  have I0 := (hC.1 0 (Or.inl rfl)).2
  obtain ⟨hw2, hw24, hw3, hw34, h6⟩ := inv_w hI
  refine r_iload_n dX0_houseOf_0 rfl ?_
  refine r_invS dX0_houseOf_1 (sp_X0_isHouse ) rfl mo_X0_isHouse (lkA q1131) (lkA q1132) (lkA q64) mp_X0_isHouse (Nat.le_of_ble_eq_true rfl) (Nat.le_of_ble_eq_true rfl) (Nat.le_of_ble_eq_true rfl) (kr_e ?_) kx_e
  refine r_if_eq 28 dX0_houseOf_4 rfl (fun c4 => ?_) (fun c4 => ?_)
  · refine r_bipush (v := (-11)) dX0_houseOf_28 rfl ?_
    exact r_ireturn dX0_houseOf_30 rfl (by first | rfl | exact bi_nar) ⟨congrArg (fun z => some (Value.int z)) (by unfold oHouseOf; rw [if_neg (by rw [bi_0.mp c4]; decide)]), Ext.rf⟩
  · first | refine r_aload_n dX0_houseOf_7 rfl ?_ | refine r_aload_nq dX0_houseOf_7 rfl ?_ | refine r_aload_nN dX0_houseOf_7 rfl ?_
    refine r_getfield 0 0 dX0_houseOf_8 rfl (Nat.le_of_ble_eq_true rfl) (lkA q404) (Or.inl rfl) (Or.inl hX) (by rfl) ?_
    refine r_getfieldN 1 0 dX0_houseOf_11 rfl (Nat.le_of_ble_eq_true rfl) (lkT q297 rfl) (Or.inl rfl) (Or.inl (s_0 S0)) (by rfl) ?_
    refine r_iload_n dX0_houseOf_14 rfl ?_
    refine r_invV dX0_houseOf_15 (sp_J2_get (s_1 S0) (s_2 S0) (isH_of c4).2.1 (by have h20 : (20 : Int32).toInt = 20 := rfl; have := (isH_of c4).2.2; omega) (isH_of c4).2.2 (fHs_at (isH_of c4).2.2)) rfl mo_J2_get (Or.inl (s_1 S0)) rfl (lkA q1211) (lkA q441) (lkA q442) rfl (lkA q68) mp_J2_get (Nat.le_of_ble_eq_true rfl) (Nat.le_of_ble_eq_true rfl) (Nat.le_of_ble_eq_true rfl) (kr_e ?_) kx_e
    refine r_castS dX0_houseOf_18 (Or.inl (s_h S0 (tn x) (isH_of c4).2.2)) rfl (lkA q1221) ?_
    refine r_iload_n dX0_houseOf_21 rfl ?_
    refine r_invV dX0_houseOf_22 (fl_r (congrArg (fun z => some (Value.int z)) (houV (i32_of (isH_of c4).2.1).symm)) (sp_X2_value hK (s_h S0 (tn x) (isH_of c4).2.2) (s_b S0 (tn x) (isH_of c4).2.2) (s_w S0 (tn x) (isH_of c4).2.2) (hI.2.2.2.2.2.2.1 (tn x) (isH_of c4).2.2).2.2.1 (hI.2.2.2.2.2.2.1 (tn x) (isH_of c4).2.2).2.2.2)) rfl mo_X2_value (Or.inl (s_h S0 (tn x) (isH_of c4).2.2)) rfl (lkA q1222) (lkA q1223) (lkA q1224) rfl (lkA q71) mp_X2_value (Nat.le_of_ble_eq_true rfl) (Nat.le_of_ble_eq_true rfl) (Nat.le_of_ble_eq_true rfl) (kr_e ?_) kx_e
    refine r_goto 30 dX0_houseOf_25 rfl ?_
    exact r_ireturn dX0_houseOf_30 rfl (by first | rfl | exact bi_nar) ⟨congrArg (fun z => some (Value.int z)) (by unfold oHouseOf; rw [if_pos (bi_n0.mp c4)]), Ext.rf⟩

set_option maxHeartbeats 4000000 in
set_option maxRecDepth 100000 in
theorem sp_X0_depot {G : GG} {h : HP} (hK : KS G) {X D R hd u : Nat} {aS : Nat → Nat → Nat} {wS : Nat → Nat → Int32} {sv : Bool} {rs dt : Int32} {tx la : Nat} (hO : CO X D R hd u aS sv rs dt tx la h) (hC : CS aS wS u sv h) {D9 : Int} (hI : Inv D9 (wS 0)) {x : Int32} : Ct G 8 40 M_X0_depot [.ref X, .int x] h (rQ (fun v h' => v = some (.int (oDepot (wS 0) x)) ∧ Ext h h')) := by
  refine ct_intro my_X0_depot (Nat.le_of_ble_eq_true rfl) ?_
  have hX := hO.1
  have S0 := (hC.1 0 (Or.inl rfl)).1
  have I0 := (hC.1 0 (Or.inl rfl)).2
  obtain ⟨hw2, hw24, hw3, hw34, h6⟩ := inv_w hI
  refine r_iload_n dX0_depot_0 rfl ?_
  refine r_invS dX0_depot_1 (sp_X0_isBristle ) rfl mo_X0_isBristle (lkA q1146) (lkA q1147) (lkA q64) mp_X0_isBristle (Nat.le_of_ble_eq_true rfl) (Nat.le_of_ble_eq_true rfl) (Nat.le_of_ble_eq_true rfl) (kr_e ?_) kx_e
  refine r_if_eq 19 dX0_depot_4 rfl (fun c4 => ?_) (fun c4 => ?_)
  · refine r_bipush (v := (-11)) dX0_depot_19 rfl ?_
    exact r_ireturn dX0_depot_21 rfl (by first | rfl | exact bi_nar) ⟨congrArg (fun z => some (Value.int z)) (by unfold oDepot; rw [if_neg (by rw [bi_0.mp c4]; decide)]), Ext.rf⟩
  · first | refine r_aload_n dX0_depot_7 rfl ?_ | refine r_aload_nq dX0_depot_7 rfl ?_ | refine r_aload_nN dX0_depot_7 rfl ?_
    refine r_getfield 0 0 dX0_depot_8 rfl (Nat.le_of_ble_eq_true rfl) (lkA q404) (Or.inl rfl) (Or.inl hX) (by rfl) ?_
    refine r_getfieldN 1 3 dX0_depot_11 rfl (Nat.le_of_ble_eq_true rfl) (lkT q303 rfl) (Or.inl rfl) (Or.inl (s_0 S0)) (by rfl) ?_
    refine r_iload_n dX0_depot_14 rfl ?_
    refine r_iaload (tn x) dX0_depot_15 (Or.inl (s_6 S0)) (isB_of c4).2.1 (isB_of c4).2.2 (fDp_at (isB_of c4).2.2) ?_
    refine r_goto 21 dX0_depot_16 rfl ?_
    exact r_ireturn dX0_depot_21 rfl (by first | rfl | exact bi_nar) ⟨congrArg (fun z => some (Value.int z)) (by unfold oDepot; rw [if_pos (bi_n0.mp c4)]), Ext.rf⟩

set_option maxHeartbeats 4000000 in
set_option maxRecDepth 100000 in
theorem sp_X0_saleOf {G : GG} {h : HP} (hK : KS G) {X D R hd u : Nat} {aS : Nat → Nat → Nat} {wS : Nat → Nat → Int32} {sv : Bool} {rs dt : Int32} {tx la : Nat} (hO : CO X D R hd u aS sv rs dt tx la h) (hC : CS aS wS u sv h) {D9 : Int} (hI : Inv D9 (wS 0)) {x y : Int32} : Ct G 8 40 M_X0_saleOf [.ref X, .int x, .int y] h (rQ (fun v h' => v = some (.int (oSaleOf (wS 0) x y)) ∧ Ext h h')) := by
  refine ct_intro my_X0_saleOf (Nat.le_of_ble_eq_true rfl) ?_
  have hX := hO.1
  have S0 := (hC.1 0 (Or.inl rfl)).1
  have I0 := (hC.1 0 (Or.inl rfl)).2
  obtain ⟨hw2, hw24, hw3, hw34, h6⟩ := inv_w hI
  first | refine r_aload_n dX0_saleOf_0 rfl ?_ | refine r_aload_nq dX0_saleOf_0 rfl ?_ | refine r_aload_nN dX0_saleOf_0 rfl ?_
  refine r_getfield 0 0 dX0_saleOf_1 rfl (Nat.le_of_ble_eq_true rfl) (lkA q404) (Or.inl rfl) (Or.inl hX) (by rfl) ?_
  refine r_iload_n dX0_saleOf_4 rfl ?_
  refine r_invV dX0_saleOf_5 (fl_e S0 (sp_X1_isSale (h := h) I0 (x := x))) rfl mo_X1_isSale (Or.inl (s_0 S0)) rfl (lkA q1394) (lkA q1395) (lkA q1396) rfl (lkA q65) mp_X1_isSale (Nat.le_of_ble_eq_true rfl) (Nat.le_of_ble_eq_true rfl) (Nat.le_of_ble_eq_true rfl) (kr_e ?_) kx_e
  refine r_if_eq 32 dX0_saleOf_8 rfl (fun c8 => ?_) (fun c8 => ?_)
  · refine r_bipush (v := (-11)) dX0_saleOf_32 rfl ?_
    exact r_ireturn dX0_saleOf_34 rfl (by first | rfl | exact bi_nar) ⟨congrArg (fun z => some (Value.int z)) (by unfold oSaleOf; rw [if_neg (by rw [bi_0.mp c8]; decide)]), Ext.rf⟩
  · first | refine r_aload_n dX0_saleOf_11 rfl ?_ | refine r_aload_nq dX0_saleOf_11 rfl ?_ | refine r_aload_nN dX0_saleOf_11 rfl ?_
    refine r_getfield 0 0 dX0_saleOf_12 rfl (Nat.le_of_ble_eq_true rfl) (lkA q404) (Or.inl rfl) (Or.inl hX) (by rfl) ?_
    refine r_getfieldN 1 2 dX0_saleOf_15 rfl (Nat.le_of_ble_eq_true rfl) (lkT q301 rfl) (Or.inl rfl) (Or.inl (s_0 S0)) (by rfl) ?_
    refine r_iload_n dX0_saleOf_18 rfl ?_
    refine r_invV dX0_saleOf_19 (sp_J4_get (s_5 S0) hw3 (fun i hi4 => s_n S0 i (by omega) hi4) (isL_of hI c8).2.1 (tn_lt (isL_of hI c8).2.1 (isL_of hI c8).2.2.2) (by omega)) rfl mo_J4_get (Or.inl (s_5 S0)) rfl (lkA q1407) (lkA q569) (lkA q2244) rfl (lkA q70) mp_J4_get (Nat.le_of_ble_eq_true rfl) (Nat.le_of_ble_eq_true rfl) (Nat.le_of_ble_eq_true rfl) (kr_e ?_) kx_e
    refine r_castS dX0_saleOf_22 (Or.inl (s_l S0 (tn x) (isL_of hI c8).2.2.1 (tn_lt (isL_of hI c8).2.1 (isL_of hI c8).2.2.2))) rfl (lkA q1408) ?_
    refine r_iload_n dX0_saleOf_25 rfl ?_
    refine r_invV dX0_saleOf_26 (fl_r (congrArg (fun z => some (Value.int z)) salV) (sp_X5_value (s_l S0 (tn x) (isL_of hI c8).2.2.1 (tn_lt (isL_of hI c8).2.1 (isL_of hI c8).2.2.2)) (h6 (tn x) (tn_lt (isL_of hI c8).2.1 (isL_of hI c8).2.2.2)))) rfl mo_X5_value (Or.inl (s_l S0 (tn x) (isL_of hI c8).2.2.1 (tn_lt (isL_of hI c8).2.1 (isL_of hI c8).2.2.2))) rfl (lkA q1409) (lkA q1410) (lkA q1411) rfl (lkA q96) mp_X5_value (Nat.le_of_ble_eq_true rfl) (Nat.le_of_ble_eq_true rfl) (Nat.le_of_ble_eq_true rfl) (kr_e ?_) kx_e
    refine r_goto 34 dX0_saleOf_29 rfl ?_
    exact r_ireturn dX0_saleOf_34 rfl (by first | rfl | exact bi_nar) ⟨congrArg (fun z => some (Value.int z)) (by unfold oSaleOf; rw [if_pos (bi_n0.mp c8)]), Ext.rf⟩

theorem isH_r {y : Int32} (c : ¬ bi (isH y) = 0) : 0 ≤ y.toInt ∧ y.toInt ≤ 19 := by
  have h := isH_of c
  omega
theorem iabs_z {x : Int32} : 2 * iabs (x - x) = 0 := by
  rw [Int32.sub_self]
  decide
set_option maxHeartbeats 4000000 in
set_option maxRecDepth 100000 in
theorem sp_X0_rounds {G : GG} {h : HP} (hK : KS G) {X D R hd u : Nat} {aS : Nat → Nat → Nat} {wS : Nat → Nat → Int32} {sv : Bool} {rs dt : Int32} {tx la : Nat} (hO : CO X D R hd u aS sv rs dt tx la h) (hC : CS aS wS u sv h) {D9 : Int} (hI : Inv D9 (wS 0)) {x y : Int32} : Ct G 8 40 M_X0_rounds [.ref X, .int x, .int y] h (rQ (fun v h' => v = some (.int (oRounds (wS 0) x y)) ∧ Ext h h')) := by
  refine ct_intro my_X0_rounds (Nat.le_of_ble_eq_true rfl) ?_
  have hX := hO.1
  have S0 := (hC.1 0 (Or.inl rfl)).1
  have I0 := (hC.1 0 (Or.inl rfl)).2
  obtain ⟨hw2, hw24, hw3, hw34, h6⟩ := inv_w hI
  first | refine r_aload_n dX0_rounds_0 rfl ?_ | refine r_aload_nq dX0_rounds_0 rfl ?_ | refine r_aload_nN dX0_rounds_0 rfl ?_
  refine r_getfield 0 0 dX0_rounds_1 rfl (Nat.le_of_ble_eq_true rfl) (lkA q404) (Or.inl rfl) (Or.inl hX) (by rfl) ?_
  refine r_iload_n dX0_rounds_4 rfl ?_
  refine r_invV dX0_rounds_5 (fl_e S0 (sp_X1_isSeller (h := h) I0 (x := x))) rfl mo_X1_isSeller (Or.inl (s_0 S0)) rfl (lkA q1161) (lkA q1162) (lkA q1163) rfl (lkA q65) mp_X1_isSeller (Nat.le_of_ble_eq_true rfl) (Nat.le_of_ble_eq_true rfl) (Nat.le_of_ble_eq_true rfl) (kr_e ?_) kx_e
  refine r_if_eq 18 dX0_rounds_8 rfl (fun c8 => ?_) (fun c8 => ?_)
  · refine r_bipush (v := (-11)) dX0_rounds_18 rfl ?_
    exact r_ireturn dX0_rounds_20 rfl (by first | rfl | exact bi_nar) ⟨congrArg (fun z => some (Value.int z)) (by unfold oRounds; rw [if_neg (fun e => by rw [bi_0.mp c8] at e; exact absurd e.1 (by decide))]), Ext.rf⟩
  · refine r_iload_n dX0_rounds_11 rfl ?_
    refine r_invS dX0_rounds_12 (sp_X0_isHouse ) rfl mo_X0_isHouse (lkA q1131) (lkA q1132) (lkA q64) mp_X0_isHouse (Nat.le_of_ble_eq_true rfl) (Nat.le_of_ble_eq_true rfl) (Nat.le_of_ble_eq_true rfl) (kr_e ?_) kx_e
    refine r_if_ne 21 dX0_rounds_15 rfl (fun c15 => ?_) (fun c15 => ?_)
    · first | refine r_aload_n dX0_rounds_21 rfl ?_ | refine r_aload_nq dX0_rounds_21 rfl ?_ | refine r_aload_nN dX0_rounds_21 rfl ?_
      refine r_getfield 0 0 dX0_rounds_22 rfl (Nat.le_of_ble_eq_true rfl) (lkA q404) (Or.inl rfl) (Or.inl hX) (by rfl) ?_
      refine r_getfieldN 1 1 dX0_rounds_25 rfl (Nat.le_of_ble_eq_true rfl) (lkT q299 rfl) (Or.inl rfl) (Or.inl (s_0 S0)) (by rfl) ?_
      refine r_iload_n dX0_rounds_28 rfl ?_
      refine r_invV dX0_rounds_29 (sp_J2_get (s_3 S0) (s_4 S0) (isS_of hI c8).2.1 (isS_of hI c8).2.2.2 (isS_of hI c8).2.2.1 (fSs_at (tn_lt (isS_of hI c8).2.1 (isS_of hI c8).2.2.2))) rfl mo_J2_get (Or.inl (s_3 S0)) rfl (lkA q1211) (lkA q441) (lkA q442) rfl (lkA q68) mp_J2_get (Nat.le_of_ble_eq_true rfl) (Nat.le_of_ble_eq_true rfl) (Nat.le_of_ble_eq_true rfl) (kr_e ?_) kx_e
      refine r_castS dX0_rounds_32 (Or.inl (s_s S0 (tn x) (isS_of hI c8).2.2.1 (tn_lt (isS_of hI c8).2.1 (isS_of hI c8).2.2.2))) rfl (lkA q1212) ?_
      first | refine r_astore_n dX0_rounds_35 (Nat.le_of_ble_eq_true rfl) ?_ | refine r_astore_nq dX0_rounds_35 (Nat.le_of_ble_eq_true rfl) ?_ | refine r_astore_nN dX0_rounds_35 (Nat.le_of_ble_eq_true rfl) ?_
      first | refine r_aload_n dX0_rounds_36 rfl ?_ | refine r_aload_nq dX0_rounds_36 rfl ?_ | refine r_aload_nN dX0_rounds_36 rfl ?_
      refine r_iload_n dX0_rounds_37 rfl ?_
      refine r_invD (owner := "BrushSellers$Placed") dX0_rounds_38 (sp_X7_isAt (s_s S0 (tn x) (isS_of hI c8).2.2.1 (tn_lt (isS_of hI c8).2.1 (isS_of hI c8).2.2.2))) rfl mo_X7_isAt (Or.inl (s_s S0 (tn x) (isS_of hI c8).2.2.1 (tn_lt (isS_of hI c8).2.1 (isS_of hI c8).2.2.2))) rfl nw_4 nw_5 q1176 ⟨by decide +kernel, by decide +kernel⟩ nw_7 (lkA q1178) rfl (show _ = some 1 from by decide +kernel) (lkA q102) mp_X7_isAt (Nat.le_of_ble_eq_true rfl) (Nat.le_of_ble_eq_true rfl) (Nat.le_of_ble_eq_true rfl) (kr_e ?_) kx_e
      refine r_if_eq 49 dX0_rounds_41 rfl (fun c41 => ?_) (fun c41 => ?_)
      · obtain ⟨H9, N9, r1, r2, r3, r4, r5, r6, r7, r8, r9, r10⟩ := rounds_v (p := wS 0 (17 + 9 * tn x + 1)) (y := y) (w := wS 0 (17 + 9 * tn x + 2)) (hI.2.2.2.2.2.1 (tn x) (isS_of hI c8).2.2.2).2.1 (isH_r c15) (hI.2.2.2.2.2.1 (tn x) (isS_of hI c8).2.2.2).2.2.1 (of_decide_eq_false (bi_0.mp c41))
        first | refine r_aload_n dX0_rounds_49 rfl ?_ | refine r_aload_nq dX0_rounds_49 rfl ?_ | refine r_aload_nN dX0_rounds_49 rfl ?_
        refine r_iload_n dX0_rounds_50 rfl ?_
        refine r_invV dX0_rounds_51 (sp_X4_rounds (s_s S0 (tn x) (isS_of hI c8).2.2.1 (tn_lt (isS_of hI c8).2.1 (isS_of hI c8).2.2.2)) H9 N9 r1 r2 r3 (hI.2.2.2.2.2.1 (tn x) (isS_of hI c8).2.2.2).2.2.1.1 r4 r5 r6) rfl mo_X4_rounds (Or.inl (s_s S0 (tn x) (isS_of hI c8).2.2.1 (tn_lt (isS_of hI c8).2.1 (isS_of hI c8).2.2.2))) rfl (lkA q1307) (lkA q1308) (lkA q1309) rfl (lkA q91) mp_X4_rounds (Nat.le_of_ble_eq_true rfl) (Nat.le_of_ble_eq_true rfl) (Nat.le_of_ble_eq_true rfl) (kr_e ?_) kx_e
        exact r_ireturn dX0_rounds_54 rfl (by first | rfl | exact bi_nar) ⟨congrArg (fun z => some (Value.int z)) (by unfold oRounds; rw [if_pos ⟨bi_n0.mp c8, bi_n0.mp c15⟩, if_neg (show ¬ 2 * iabs (y - gSl (wS 0) (tn x) 1) = 0 from r8)]; exact r7), Ext.rf⟩
      · refine r_bipush (v := (-15)) dX0_rounds_44 rfl ?_
        refine r_goto 54 dX0_rounds_46 rfl ?_
        exact r_ireturn dX0_rounds_54 rfl (by first | rfl | exact bi_nar) ⟨congrArg (fun z => some (Value.int z)) (by unfold oRounds; rw [if_pos ⟨bi_n0.mp c8, bi_n0.mp c15⟩, if_pos (by rw [show gSl (wS 0) (tn x) 1 = y from of_decide_eq_true (bi_n0.mp c41)]; exact iabs_z)]), Ext.rf⟩
    · refine r_bipush (v := (-11)) dX0_rounds_18 rfl ?_
      exact r_ireturn dX0_rounds_20 rfl (by first | rfl | exact bi_nar) ⟨congrArg (fun z => some (Value.int z)) (by unfold oRounds; rw [if_neg (fun e => by rw [bi_0.mp c15] at e; exact absurd e.2 (by decide))]), Ext.rf⟩

set_option maxHeartbeats 4000000 in
set_option maxRecDepth 100000 in
theorem sp_X0_roundsAgain {G : GG} {h : HP} (hK : KS G) {X D R hd u : Nat} {aS : Nat → Nat → Nat} {wS : Nat → Nat → Int32} {sv : Bool} {rs dt : Int32} {tx la : Nat} (hO : CO X D R hd u aS sv rs dt tx la h) (hC : CS aS wS u sv h) {D9 : Int} (hI : Inv D9 (wS 0)) {x y : Int32} : Ct G 8 40 M_X0_roundsAgain [.ref X, .int x, .int y] h (rQ (fun v h' => v = some (.int (oRounds (wS 0) x y)) ∧ Ext h h')) := by
  refine ct_intro my_X0_roundsAgain (Nat.le_of_ble_eq_true rfl) ?_
  have hX := hO.1
  have S0 := (hC.1 0 (Or.inl rfl)).1
  have I0 := (hC.1 0 (Or.inl rfl)).2
  obtain ⟨hw2, hw24, hw3, hw34, h6⟩ := inv_w hI
  first | refine r_aload_n dX0_roundsAgain_0 rfl ?_ | refine r_aload_nq dX0_roundsAgain_0 rfl ?_ | refine r_aload_nN dX0_roundsAgain_0 rfl ?_
  refine r_getfield 0 0 dX0_roundsAgain_1 rfl (Nat.le_of_ble_eq_true rfl) (lkA q404) (Or.inl rfl) (Or.inl hX) (by rfl) ?_
  refine r_iload_n dX0_roundsAgain_4 rfl ?_
  refine r_invV dX0_roundsAgain_5 (fl_e S0 (sp_X1_isSeller (h := h) I0 (x := x))) rfl mo_X1_isSeller (Or.inl (s_0 S0)) rfl (lkA q1161) (lkA q1162) (lkA q1163) rfl (lkA q65) mp_X1_isSeller (Nat.le_of_ble_eq_true rfl) (Nat.le_of_ble_eq_true rfl) (Nat.le_of_ble_eq_true rfl) (kr_e ?_) kx_e
  refine r_if_eq 18 dX0_roundsAgain_8 rfl (fun c8 => ?_) (fun c8 => ?_)
  · refine r_bipush (v := (-11)) dX0_roundsAgain_18 rfl ?_
    exact r_ireturn dX0_roundsAgain_20 rfl (by first | rfl | exact bi_nar) ⟨congrArg (fun z => some (Value.int z)) (by unfold oRounds; rw [if_neg (fun e => by rw [bi_0.mp c8] at e; exact absurd e.1 (by decide))]), Ext.rf⟩
  · refine r_iload_n dX0_roundsAgain_11 rfl ?_
    refine r_invS dX0_roundsAgain_12 (sp_X0_isHouse ) rfl mo_X0_isHouse (lkA q1131) (lkA q1132) (lkA q64) mp_X0_isHouse (Nat.le_of_ble_eq_true rfl) (Nat.le_of_ble_eq_true rfl) (Nat.le_of_ble_eq_true rfl) (kr_e ?_) kx_e
    refine r_if_ne 21 dX0_roundsAgain_15 rfl (fun c15 => ?_) (fun c15 => ?_)
    · first | refine r_aload_n dX0_roundsAgain_21 rfl ?_ | refine r_aload_nq dX0_roundsAgain_21 rfl ?_ | refine r_aload_nN dX0_roundsAgain_21 rfl ?_
      refine r_getfield 0 0 dX0_roundsAgain_22 rfl (Nat.le_of_ble_eq_true rfl) (lkA q404) (Or.inl rfl) (Or.inl hX) (by rfl) ?_
      refine r_getfieldN 1 1 dX0_roundsAgain_25 rfl (Nat.le_of_ble_eq_true rfl) (lkT q299 rfl) (Or.inl rfl) (Or.inl (s_0 S0)) (by rfl) ?_
      refine r_iload_n dX0_roundsAgain_28 rfl ?_
      refine r_invV dX0_roundsAgain_29 (sp_J2_get (s_3 S0) (s_4 S0) (isS_of hI c8).2.1 (isS_of hI c8).2.2.2 (isS_of hI c8).2.2.1 (fSs_at (tn_lt (isS_of hI c8).2.1 (isS_of hI c8).2.2.2))) rfl mo_J2_get (Or.inl (s_3 S0)) rfl (lkA q1211) (lkA q441) (lkA q442) rfl (lkA q68) mp_J2_get (Nat.le_of_ble_eq_true rfl) (Nat.le_of_ble_eq_true rfl) (Nat.le_of_ble_eq_true rfl) (kr_e ?_) kx_e
      refine r_castS dX0_roundsAgain_32 (Or.inl (s_s S0 (tn x) (isS_of hI c8).2.2.1 (tn_lt (isS_of hI c8).2.1 (isS_of hI c8).2.2.2))) rfl (lkA q1212) ?_
      first | refine r_astore_n dX0_roundsAgain_35 (Nat.le_of_ble_eq_true rfl) ?_ | refine r_astore_nq dX0_roundsAgain_35 (Nat.le_of_ble_eq_true rfl) ?_ | refine r_astore_nN dX0_roundsAgain_35 (Nat.le_of_ble_eq_true rfl) ?_
      first | refine r_aload_n dX0_roundsAgain_36 rfl ?_ | refine r_aload_nq dX0_roundsAgain_36 rfl ?_ | refine r_aload_nN dX0_roundsAgain_36 rfl ?_
      refine r_iload_n dX0_roundsAgain_37 rfl ?_
      refine r_invD (owner := "BrushSellers$Placed") dX0_roundsAgain_38 (sp_X7_isAt (s_s S0 (tn x) (isS_of hI c8).2.2.1 (tn_lt (isS_of hI c8).2.1 (isS_of hI c8).2.2.2))) rfl mo_X7_isAt (Or.inl (s_s S0 (tn x) (isS_of hI c8).2.2.1 (tn_lt (isS_of hI c8).2.1 (isS_of hI c8).2.2.2))) rfl nw_4 nw_5 q1176 ⟨by decide +kernel, by decide +kernel⟩ nw_7 (lkA q1178) rfl (show _ = some 1 from by decide +kernel) (lkA q102) mp_X7_isAt (Nat.le_of_ble_eq_true rfl) (Nat.le_of_ble_eq_true rfl) (Nat.le_of_ble_eq_true rfl) (kr_e ?_) kx_e
      refine r_if_eq 49 dX0_roundsAgain_41 rfl (fun c41 => ?_) (fun c41 => ?_)
      · obtain ⟨H9, N9, r1, r2, r3, r4, r5, r6, r7, r8, r9, r10⟩ := rounds_v (p := wS 0 (17 + 9 * tn x + 1)) (y := y) (w := wS 0 (17 + 9 * tn x + 2)) (hI.2.2.2.2.2.1 (tn x) (isS_of hI c8).2.2.2).2.1 (isH_r c15) (hI.2.2.2.2.2.1 (tn x) (isS_of hI c8).2.2.2).2.2.1 (of_decide_eq_false (bi_0.mp c41))
        first | refine r_aload_n dX0_roundsAgain_49 rfl ?_ | refine r_aload_nq dX0_roundsAgain_49 rfl ?_ | refine r_aload_nN dX0_roundsAgain_49 rfl ?_
        refine r_iload_n dX0_roundsAgain_50 rfl ?_
        refine r_invV dX0_roundsAgain_51 (sp_X4_roundsAgain (s_s S0 (tn x) (isS_of hI c8).2.2.1 (tn_lt (isS_of hI c8).2.1 (isS_of hI c8).2.2.2)) r9) rfl mo_X4_roundsAgain (Or.inl (s_s S0 (tn x) (isS_of hI c8).2.2.1 (tn_lt (isS_of hI c8).2.1 (isS_of hI c8).2.2.2))) rfl (lkA q1315) (lkA q1316) (lkA q1317) rfl (lkA q91) mp_X4_roundsAgain (Nat.le_of_ble_eq_true rfl) (Nat.le_of_ble_eq_true rfl) (Nat.le_of_ble_eq_true rfl) (kr_e ?_) kx_e
        exact r_ireturn dX0_roundsAgain_54 rfl (by first | rfl | exact bi_nar) ⟨congrArg (fun z => some (Value.int z)) (by unfold oRounds; rw [if_pos ⟨bi_n0.mp c8, bi_n0.mp c15⟩, if_neg (show ¬ 2 * iabs (y - gSl (wS 0) (tn x) 1) = 0 from r8)]; exact r10), Ext.rf⟩
      · refine r_bipush (v := (-15)) dX0_roundsAgain_44 rfl ?_
        refine r_goto 54 dX0_roundsAgain_46 rfl ?_
        exact r_ireturn dX0_roundsAgain_54 rfl (by first | rfl | exact bi_nar) ⟨congrArg (fun z => some (Value.int z)) (by unfold oRounds; rw [if_pos ⟨bi_n0.mp c8, bi_n0.mp c15⟩, if_pos (by rw [show gSl (wS 0) (tn x) 1 = y from of_decide_eq_true (bi_n0.mp c41)]; exact iabs_z)]), Ext.rf⟩
    · refine r_bipush (v := (-11)) dX0_roundsAgain_18 rfl ?_
      exact r_ireturn dX0_roundsAgain_20 rfl (by first | rfl | exact bi_nar) ⟨congrArg (fun z => some (Value.int z)) (by unfold oRounds; rw [if_neg (fun e => by rw [bi_0.mp c15] at e; exact absurd e.2 (by decide))]), Ext.rf⟩

theorem arg_b {G : GG} {d c : Nat} {M : Mt} {A1 A2 : List Value} {b : Int32} {h : HP} {Q : Oc → HP → Prop} (hb : b.toInt = (tn b : Int)) (e : Ct G d c M (A1 ++ .int (nI (tn b)) :: A2) h Q) : Ct G d c M (A1 ++ .int b :: A2) h Q := by
  rw [← i32_of hb] at e
  exact e
set_option maxHeartbeats 4000000 in
set_option maxRecDepth 100000 in
theorem sp_X0_would {G : GG} {h : HP} (hK : KS G) {X D R hd u : Nat} {aS : Nat → Nat → Nat} {wS : Nat → Nat → Int32} {sv : Bool} {rs dt : Int32} {tx la : Nat} (hO : CO X D R hd u aS sv rs dt tx la h) (hC : CS aS wS u sv h) {D9 : Int} (hI : Inv D9 (wS 0)) {x y z p : Int32} : Ct G 8 40 M_X0_would [.ref X, .int x, .int y, .int z, .int p] h (rQ (fun v h' => v = some (.int (oWould (wS 0) x y z p)) ∧ Ext h h')) := by
  refine ct_intro my_X0_would (Nat.le_of_ble_eq_true rfl) ?_
  have hX := hO.1
  have S0 := (hC.1 0 (Or.inl rfl)).1
  have I0 := (hC.1 0 (Or.inl rfl)).2
  obtain ⟨hw2, hw24, hw3, hw34, h6⟩ := inv_w hI
  first | refine r_aload_n dX0_would_0 rfl ?_ | refine r_aload_nq dX0_would_0 rfl ?_ | refine r_aload_nN dX0_would_0 rfl ?_
  refine r_getfield 0 0 dX0_would_1 rfl (Nat.le_of_ble_eq_true rfl) (lkA q404) (Or.inl rfl) (Or.inl hX) (by rfl) ?_
  refine r_iload_n dX0_would_4 rfl ?_
  refine r_invV dX0_would_5 (fl_e S0 (sp_X1_isSeller (h := h) I0 (x := x))) rfl mo_X1_isSeller (Or.inl (s_0 S0)) rfl (lkA q1161) (lkA q1162) (lkA q1163) rfl (lkA q65) mp_X1_isSeller (Nat.le_of_ble_eq_true rfl) (Nat.le_of_ble_eq_true rfl) (Nat.le_of_ble_eq_true rfl) (kr_e ?_) kx_e
  refine r_if_eq 25 dX0_would_8 rfl (fun c8 => ?_) (fun c8 => ?_)
  · refine r_bipush (v := (-11)) dX0_would_25 rfl ?_
    exact r_ireturn dX0_would_27 rfl (by first | rfl | exact bi_nar) ⟨congrArg (fun z => some (Value.int z)) (by unfold oWould; rw [if_neg (fun e => by rw [bi_0.mp c8] at e; exact absurd e.1 (by decide))]), Ext.rf⟩
  · refine r_iload_n dX0_would_11 rfl ?_
    refine r_invS dX0_would_12 (sp_X0_isHouse ) rfl mo_X0_isHouse (lkA q1131) (lkA q1132) (lkA q64) mp_X0_isHouse (Nat.le_of_ble_eq_true rfl) (Nat.le_of_ble_eq_true rfl) (Nat.le_of_ble_eq_true rfl) (kr_e ?_) kx_e
    refine r_if_eq 25 dX0_would_15 rfl (fun c15 => ?_) (fun c15 => ?_)
    · refine r_bipush (v := (-11)) dX0_would_25 rfl ?_
      exact r_ireturn dX0_would_27 rfl (by first | rfl | exact bi_nar) ⟨congrArg (fun z => some (Value.int z)) (by unfold oWould; rw [if_neg (fun e => by rw [bi_0.mp c15] at e; exact absurd e.2.1 (by decide))]), Ext.rf⟩
    · refine r_iload_n dX0_would_18 rfl ?_
      refine r_invS dX0_would_19 (sp_X0_isBristle ) rfl mo_X0_isBristle (lkA q1146) (lkA q1147) (lkA q64) mp_X0_isBristle (Nat.le_of_ble_eq_true rfl) (Nat.le_of_ble_eq_true rfl) (Nat.le_of_ble_eq_true rfl) (kr_e ?_) kx_e
      refine r_if_ne 28 dX0_would_22 rfl (fun c22 => ?_) (fun c22 => ?_)
      · refine r_iload dX0_would_28 rfl ?_
        refine r_invS dX0_would_30 (sp_X0_isPrice ) rfl mo_X0_isPrice (lkA q1323) (lkA q1324) (lkA q64) mp_X0_isPrice (Nat.le_of_ble_eq_true rfl) (Nat.le_of_ble_eq_true rfl) (Nat.le_of_ble_eq_true rfl) (kr_e ?_) kx_e
        refine r_if_ne 39 dX0_would_33 rfl (fun c33 => ?_) (fun c33 => ?_)
        · first | refine r_aload_n dX0_would_39 rfl ?_ | refine r_aload_nq dX0_would_39 rfl ?_ | refine r_aload_nN dX0_would_39 rfl ?_
          refine r_getfield 0 0 dX0_would_40 rfl (Nat.le_of_ble_eq_true rfl) (lkA q404) (Or.inl rfl) (Or.inl hX) (by rfl) ?_
          first | refine r_aload_n dX0_would_43 rfl ?_ | refine r_aload_nq dX0_would_43 rfl ?_ | refine r_aload_nN dX0_would_43 rfl ?_
          refine r_getfield 0 0 dX0_would_44 rfl (Nat.le_of_ble_eq_true rfl) (lkA q404) (Or.inl rfl) (Or.inl hX) (by rfl) ?_
          refine r_getfieldN 1 1 dX0_would_47 rfl (Nat.le_of_ble_eq_true rfl) (lkT q299 rfl) (Or.inl rfl) (Or.inl (s_0 S0)) (by rfl) ?_
          refine r_iload_n dX0_would_50 rfl ?_
          refine r_invV dX0_would_51 (sp_J2_get (s_3 S0) (s_4 S0) (isS_of hI c8).2.1 (isS_of hI c8).2.2.2 (isS_of hI c8).2.2.1 (fSs_at (tn_lt (isS_of hI c8).2.1 (isS_of hI c8).2.2.2))) rfl mo_J2_get (Or.inl (s_3 S0)) rfl (lkA q1211) (lkA q441) (lkA q442) rfl (lkA q68) mp_J2_get (Nat.le_of_ble_eq_true rfl) (Nat.le_of_ble_eq_true rfl) (Nat.le_of_ble_eq_true rfl) (kr_e ?_) kx_e
          refine r_castS dX0_would_54 (Or.inl (s_s S0 (tn x) (isS_of hI c8).2.2.1 (tn_lt (isS_of hI c8).2.1 (isS_of hI c8).2.2.2))) rfl (lkA q1212) ?_
          first | refine r_aload_n dX0_would_57 rfl ?_ | refine r_aload_nq dX0_would_57 rfl ?_ | refine r_aload_nN dX0_would_57 rfl ?_
          refine r_getfield 0 0 dX0_would_58 rfl (Nat.le_of_ble_eq_true rfl) (lkA q404) (Or.inl rfl) (Or.inl hX) (by rfl) ?_
          refine r_getfieldN 1 0 dX0_would_61 rfl (Nat.le_of_ble_eq_true rfl) (lkT q297 rfl) (Or.inl rfl) (Or.inl (s_0 S0)) (by rfl) ?_
          refine r_iload_n dX0_would_64 rfl ?_
          refine r_invV dX0_would_65 (sp_J2_get (s_1 S0) (s_2 S0) (isH_of c15).2.1 (by have h20 : (20 : Int32).toInt = 20 := rfl; have := (isH_of c15).2.2; omega) (isH_of c15).2.2 (fHs_at (isH_of c15).2.2)) rfl mo_J2_get (Or.inl (s_1 S0)) rfl (lkA q1211) (lkA q441) (lkA q442) rfl (lkA q68) mp_J2_get (Nat.le_of_ble_eq_true rfl) (Nat.le_of_ble_eq_true rfl) (Nat.le_of_ble_eq_true rfl) (kr_e ?_) kx_e
          refine r_castS dX0_would_68 (Or.inl (s_h S0 (tn y) (isH_of c15).2.2)) rfl (lkA q1221) ?_
          refine r_iload_n dX0_would_71 rfl ?_
          refine r_iload dX0_would_72 rfl ?_
          refine r_invV dX0_would_74 (arg_b (A1 := [.ref (aS 0 0), .ref (aS 0 (70 + tn x)), .ref (aS 0 (10 + tn y))]) (A2 := [.int p]) (isB_of c22).2.1 (fl_e S0 (sp_X1_would (h := h) I0 hK (y := p) (tn x) (tn y) (tn z) (isS_of hI c8).2.2.1 (tn_lt (isS_of hI c8).2.1 (isS_of hI c8).2.2.2) (isH_of c15).2.2 (isB_of c22).2.2 (hI.2.2.2.2.2.2.1 (tn y) (isH_of c15).2.2).2.2.1 (hI.2.2.2.2.2.2.1 (tn y) (isH_of c15).2.2).2.2.2))) rfl mo_X1_would (Or.inl (s_0 S0)) rfl (lkA q1326) (lkA q1327) (lkA q1328) rfl (lkA q65) mp_X1_would (Nat.le_of_ble_eq_true rfl) (Nat.le_of_ble_eq_true rfl) (Nat.le_of_ble_eq_true rfl) (kr_e ?_) kx_e
          exact r_ireturn dX0_would_77 rfl (by first | rfl | exact bi_nar) ⟨congrArg (fun z => some (Value.int z)) (by unfold oWould; rw [if_pos ⟨bi_n0.mp c8, bi_n0.mp c15, bi_n0.mp c22⟩, if_pos (bi_n0.mp c33)]; exact gWd_eq ((hI.2.2.2.2.2.1 (tn x) (isS_of hI c8).2.2.2).2.2.2 (tn z) (isB_of c22).2.2).1), Ext.rf⟩
        · refine r_bipush (v := (-12)) dX0_would_36 rfl ?_
          exact r_ireturn dX0_would_38 rfl (by first | rfl | exact bi_nar) ⟨congrArg (fun z => some (Value.int z)) (by unfold oWould; rw [if_pos ⟨bi_n0.mp c8, bi_n0.mp c15, bi_n0.mp c22⟩, if_neg (by rw [bi_0.mp c33]; decide)]), Ext.rf⟩
      · refine r_bipush (v := (-11)) dX0_would_25 rfl ?_
        exact r_ireturn dX0_would_27 rfl (by first | rfl | exact bi_nar) ⟨congrArg (fun z => some (Value.int z)) (by unfold oWould; rw [if_neg (fun e => by rw [bi_0.mp c22] at e; exact absurd e.2.2 (by decide))]), Ext.rf⟩

set_option maxHeartbeats 4000000 in
set_option maxRecDepth 100000 in
theorem sp_X0_bestHouse {G : GG} {h : HP} (hK : KS G) {X D R hd u : Nat} {aS : Nat → Nat → Nat} {wS : Nat → Nat → Int32} {sv : Bool} {rs dt : Int32} {tx la : Nat} (hO : CO X D R hd u aS sv rs dt tx la h) (hC : CS aS wS u sv h) {D9 : Int} (hI : Inv D9 (wS 0)) {x y z : Int32} : Ct G 8 40 M_X0_bestHouse [.ref X, .int x, .int y, .int z] h (rQ (fun v h' => v = some (.int (oBest (wS 0) x y z)) ∧ Ext h h')) := by
  refine ct_intro my_X0_bestHouse (Nat.le_of_ble_eq_true rfl) ?_
  have hX := hO.1
  have S0 := (hC.1 0 (Or.inl rfl)).1
  have I0 := (hC.1 0 (Or.inl rfl)).2
  obtain ⟨hw2, hw24, hw3, hw34, h6⟩ := inv_w hI
  first | refine r_aload_n dX0_bestHouse_0 rfl ?_ | refine r_aload_nq dX0_bestHouse_0 rfl ?_ | refine r_aload_nN dX0_bestHouse_0 rfl ?_
  refine r_getfield 0 0 dX0_bestHouse_1 rfl (Nat.le_of_ble_eq_true rfl) (lkA q404) (Or.inl rfl) (Or.inl hX) (by rfl) ?_
  refine r_iload_n dX0_bestHouse_4 rfl ?_
  refine r_invV dX0_bestHouse_5 (fl_e S0 (sp_X1_isSeller (h := h) I0 (x := x))) rfl mo_X1_isSeller (Or.inl (s_0 S0)) rfl (lkA q1161) (lkA q1162) (lkA q1163) rfl (lkA q65) mp_X1_isSeller (Nat.le_of_ble_eq_true rfl) (Nat.le_of_ble_eq_true rfl) (Nat.le_of_ble_eq_true rfl) (kr_e ?_) kx_e
  refine r_if_eq 18 dX0_bestHouse_8 rfl (fun c8 => ?_) (fun c8 => ?_)
  · refine r_bipush (v := (-11)) dX0_bestHouse_18 rfl ?_
    exact r_ireturn dX0_bestHouse_20 rfl (by first | rfl | exact bi_nar) ⟨congrArg (fun z => some (Value.int z)) (by unfold oBest; rw [if_neg (fun e => by rw [bi_0.mp c8] at e; exact absurd e.1 (by decide))]), Ext.rf⟩
  · refine r_iload_n dX0_bestHouse_11 rfl ?_
    refine r_invS dX0_bestHouse_12 (sp_X0_isBristle ) rfl mo_X0_isBristle (lkA q1146) (lkA q1147) (lkA q64) mp_X0_isBristle (Nat.le_of_ble_eq_true rfl) (Nat.le_of_ble_eq_true rfl) (Nat.le_of_ble_eq_true rfl) (kr_e ?_) kx_e
    refine r_if_ne 21 dX0_bestHouse_15 rfl (fun c15 => ?_) (fun c15 => ?_)
    · refine r_iload_n dX0_bestHouse_21 rfl ?_
      refine r_invS dX0_bestHouse_22 (sp_X0_isPrice ) rfl mo_X0_isPrice (lkA q1323) (lkA q1324) (lkA q64) mp_X0_isPrice (Nat.le_of_ble_eq_true rfl) (Nat.le_of_ble_eq_true rfl) (Nat.le_of_ble_eq_true rfl) (kr_e ?_) kx_e
      refine r_if_eq 54 dX0_bestHouse_25 rfl (fun c25 => ?_) (fun c25 => ?_)
      · refine r_bipush (v := (-12)) dX0_bestHouse_54 rfl ?_
        exact r_ireturn dX0_bestHouse_56 rfl (by first | rfl | exact bi_nar) ⟨congrArg (fun z => some (Value.int z)) (by unfold oBest; rw [if_pos ⟨bi_n0.mp c8, bi_n0.mp c15⟩, if_neg (by rw [bi_0.mp c25]; decide)]), Ext.rf⟩
      · first | refine r_aload_n dX0_bestHouse_28 rfl ?_ | refine r_aload_nq dX0_bestHouse_28 rfl ?_ | refine r_aload_nN dX0_bestHouse_28 rfl ?_
        refine r_getfield 0 0 dX0_bestHouse_29 rfl (Nat.le_of_ble_eq_true rfl) (lkA q404) (Or.inl rfl) (Or.inl hX) (by rfl) ?_
        first | refine r_aload_n dX0_bestHouse_32 rfl ?_ | refine r_aload_nq dX0_bestHouse_32 rfl ?_ | refine r_aload_nN dX0_bestHouse_32 rfl ?_
        refine r_getfield 0 0 dX0_bestHouse_33 rfl (Nat.le_of_ble_eq_true rfl) (lkA q404) (Or.inl rfl) (Or.inl hX) (by rfl) ?_
        refine r_getfieldN 1 1 dX0_bestHouse_36 rfl (Nat.le_of_ble_eq_true rfl) (lkT q299 rfl) (Or.inl rfl) (Or.inl (s_0 S0)) (by rfl) ?_
        refine r_iload_n dX0_bestHouse_39 rfl ?_
        refine r_invV dX0_bestHouse_40 (sp_J2_get (s_3 S0) (s_4 S0) (isS_of hI c8).2.1 (isS_of hI c8).2.2.2 (isS_of hI c8).2.2.1 (fSs_at (tn_lt (isS_of hI c8).2.1 (isS_of hI c8).2.2.2))) rfl mo_J2_get (Or.inl (s_3 S0)) rfl (lkA q1211) (lkA q441) (lkA q442) rfl (lkA q68) mp_J2_get (Nat.le_of_ble_eq_true rfl) (Nat.le_of_ble_eq_true rfl) (Nat.le_of_ble_eq_true rfl) (kr_e ?_) kx_e
        refine r_castS dX0_bestHouse_43 (Or.inl (s_s S0 (tn x) (isS_of hI c8).2.2.1 (tn_lt (isS_of hI c8).2.1 (isS_of hI c8).2.2.2))) rfl (lkA q1212) ?_
        refine r_iload_n dX0_bestHouse_46 rfl ?_
        refine r_iload_n dX0_bestHouse_47 rfl ?_
        refine r_invV dX0_bestHouse_48 (arg_b (A1 := [.ref (aS 0 0), .ref (aS 0 (70 + tn x))]) (A2 := [.int z]) (isB_of c15).2.1 (fl_x S0 (sp_X1_bestHouse (h := h) I0 hK (tn x) (tn y) (isS_of hI c8).2.2.1 (tn_lt (isS_of hI c8).2.1 (isS_of hI c8).2.2.2) (isB_of c15).2.2 ((hI.2.2.2.2.2.1 (tn x) (isS_of hI c8).2.2.2).2.2.2 (tn y) (isB_of c15).2.2).1 (hI.2.2.2.2.2.1 (tn x) (isS_of hI c8).2.2.2).2.1 (fun m hm => (hI.2.2.2.2.2.2.1 m hm).2.2)))) rfl mo_X1_bestHouse (Or.inl (s_0 S0)) rfl (lkA q1349) (lkA q1350) (lkA q1351) rfl (lkA q65) mp_X1_bestHouse (Nat.le_of_ble_eq_true rfl) (Nat.le_of_ble_eq_true rfl) (Nat.le_of_ble_eq_true rfl) (kr_r (fun v9 h9 p9 => ?_)) kx_r
        obtain ⟨rfl, hx9⟩ := p9
        refine r_goto 56 dX0_bestHouse_51 rfl ?_
        exact r_ireturn dX0_bestHouse_56 rfl (by first | rfl | exact bi_nar) ⟨congrArg (fun z => some (Value.int z)) (by unfold oBest; rw [if_pos ⟨bi_n0.mp c8, bi_n0.mp c15⟩, if_pos (bi_n0.mp c25)]), hx9⟩
    · refine r_bipush (v := (-11)) dX0_bestHouse_18 rfl ?_
      exact r_ireturn dX0_bestHouse_20 rfl (by first | rfl | exact bi_nar) ⟨congrArg (fun z => some (Value.int z)) (by unfold oBest; rw [if_neg (fun e => by rw [bi_0.mp c15] at e; exact absurd e.2 (by decide))]), Ext.rf⟩

def Bal (w : Nat → Int32) : Prop := gSum w 6 (tn (w 2)) = w 6 ∧ gSum w 7 (tn (w 2)) = w 7
theorem bal_e {w : Nat → Int32} (hB : Bal w) : (if oBal2 w (tn (w 2)) = true then (1 : Int32) else 0) = oBal w := by
  unfold oBal2 oBal
  rw [hB.1, hB.2]
  by_cases a : w 5 = w 14 + w 15 + w 16 + gCases w (tn (w 2)) + w 8 + w 6 - w 7
  · by_cases b : w 4 = 50 + w 9 - w 10 - w 11
    · rw [decide_eq_true a, decide_eq_true b, if_pos (by decide), if_pos ⟨a, b⟩]
    · rw [decide_eq_false b, Bool.and_false, if_neg (by decide), if_neg (fun e => b e.2)]
  · rw [decide_eq_false a, Bool.false_and, if_neg (by decide), if_neg (fun e => a e.1)]
def oMean (w : Nat → Int32) : UInt64 := Jvm.FP.ddiv (Jvm.FP.i2d (gTemps w 20)) 4626322717216342016
def oShare (w : Nat → Int32) : UInt32 := if w 6 = 0 then Jvm.FP.fconst0 else Jvm.FP.fdiv (Jvm.FP.i2f (w 7)) (Jvm.FP.i2f (w 6))
set_option maxHeartbeats 4000000 in
set_option maxRecDepth 100000 in
theorem sp_X0_isBalanced {G : GG} {h : HP} (hK : KS G) {X D R hd u : Nat} {aS : Nat → Nat → Nat} {wS : Nat → Nat → Int32} {sv : Bool} {rs dt : Int32} {tx la : Nat} (hO : CO X D R hd u aS sv rs dt tx la h) (hC : CS aS wS u sv h) {D9 : Int} (hI : Inv D9 (wS 0)) (hB : Bal (wS 0))  : Ct G 8 40 M_X0_isBalanced [.ref X] h (rQ (fun v h' => v = some (.int (oBal (wS 0))) ∧ Ext h h')) := by
  refine ct_intro my_X0_isBalanced (Nat.le_of_ble_eq_true rfl) ?_
  have hX := hO.1
  have S0 := (hC.1 0 (Or.inl rfl)).1
  have I0 := (hC.1 0 (Or.inl rfl)).2
  obtain ⟨hw2, hw24, hw3, hw34, h6⟩ := inv_w hI
  first | refine r_aload_n dX0_isBalanced_0 rfl ?_ | refine r_aload_nq dX0_isBalanced_0 rfl ?_ | refine r_aload_nN dX0_isBalanced_0 rfl ?_
  refine r_getfield 0 0 dX0_isBalanced_1 rfl (Nat.le_of_ble_eq_true rfl) (lkA q404) (Or.inl rfl) (Or.inl hX) (by rfl) ?_
  refine r_invV dX0_isBalanced_4 (fl_x S0 (sp_X1_isBalanced (h := h) I0 (tn (wS 0 2)) hw2 hw24)) rfl mo_X1_isBalanced (Or.inl (s_0 S0)) rfl (lkA q1829) (lkA q1830) (lkA q1831) rfl (lkA q65) mp_X1_isBalanced (Nat.le_of_ble_eq_true rfl) (Nat.le_of_ble_eq_true rfl) (Nat.le_of_ble_eq_true rfl) (kr_r (fun v9 h9 p9 => ?_)) kx_r
  obtain ⟨rfl, hx9⟩ := p9
  refine r_if_eq 14 dX0_isBalanced_7 rfl (fun c7 => ?_) (fun c7 => ?_)
  · refine r_iconst (v := 0) dX0_isBalanced_14 rfl ?_
    exact r_ireturn dX0_isBalanced_15 rfl (by first | rfl | exact bi_nar) ⟨congrArg (fun z => some (Value.int z)) (by rw [← bal_e hB, if_neg (by rw [bi_0.mp c7]; decide)]), hx9⟩
  · refine r_iconst (v := 1) dX0_isBalanced_10 rfl ?_
    refine r_goto 15 dX0_isBalanced_11 rfl ?_
    exact r_ireturn dX0_isBalanced_15 rfl (by first | rfl | exact bi_nar) ⟨congrArg (fun z => some (Value.int z)) (by rw [← bal_e hB, if_pos (bi_n0.mp c7)]), hx9⟩

set_option maxHeartbeats 4000000 in
set_option maxRecDepth 100000 in
theorem sp_X0_meanTemper {G : GG} {h : HP} (hK : KS G) {X D R hd u : Nat} {aS : Nat → Nat → Nat} {wS : Nat → Nat → Int32} {sv : Bool} {rs dt : Int32} {tx la : Nat} (hO : CO X D R hd u aS sv rs dt tx la h) (hC : CS aS wS u sv h) {D9 : Int} (hI : Inv D9 (wS 0)) (hn : vf_n64 (oMean (wS 0)))  : Ct G 8 40 M_X0_meanTemper [.ref X] h (rQ (fun v h' => v = some (.double (oMean (wS 0))) ∧ Ext h h')) := by
  refine ct_intro my_X0_meanTemper (Nat.le_of_ble_eq_true rfl) ?_
  have hX := hO.1
  have S0 := (hC.1 0 (Or.inl rfl)).1
  have I0 := (hC.1 0 (Or.inl rfl)).2
  obtain ⟨hw2, hw24, hw3, hw34, h6⟩ := inv_w hI
  first | refine r_aload_n dX0_meanTemper_0 rfl ?_ | refine r_aload_nq dX0_meanTemper_0 rfl ?_ | refine r_aload_nN dX0_meanTemper_0 rfl ?_
  refine r_getfield 0 0 dX0_meanTemper_1 rfl (Nat.le_of_ble_eq_true rfl) (lkA q404) (Or.inl rfl) (Or.inl hX) (by rfl) ?_
  refine r_invV dX0_meanTemper_4 (fl_x S0 (sp_X1_tempers (h := h) I0)) rfl mo_X1_tempers (Or.inl (s_0 S0)) rfl (lkA q1841) (lkA q1842) (lkA q1843) rfl (lkA q65) mp_X1_tempers (Nat.le_of_ble_eq_true rfl) (Nat.le_of_ble_eq_true rfl) (Nat.le_of_ble_eq_true rfl) (kr_r (fun v9 h9 p9 => ?_)) kx_r
  obtain ⟨rfl, hx9⟩ := p9
  refine r_i2d dX0_meanTemper_7 ?_
  refine r_ldc2d dX0_meanTemper_8 (lkA q1845) ?_
  refine r_ddiv dX0_meanTemper_11 hn ?_
  exact r_dreturn dX0_meanTemper_12 rfl ⟨rfl, hx9⟩

set_option maxHeartbeats 4000000 in
set_option maxRecDepth 100000 in
theorem sp_X0_backShare {G : GG} {h : HP} (hK : KS G) {X D R hd u : Nat} {aS : Nat → Nat → Nat} {wS : Nat → Nat → Int32} {sv : Bool} {rs dt : Int32} {tx la : Nat} (hO : CO X D R hd u aS sv rs dt tx la h) (hC : CS aS wS u sv h) {D9 : Int} (hI : Inv D9 (wS 0)) (hB : Bal (wS 0)) (hn : vf_n32 (oShare (wS 0)))  : Ct G 8 40 M_X0_backShare [.ref X] h (rQ (fun v h' => v = some (.float (oShare (wS 0))) ∧ Ext h h')) := by
  refine ct_intro my_X0_backShare (Nat.le_of_ble_eq_true rfl) ?_
  have hX := hO.1
  have S0 := (hC.1 0 (Or.inl rfl)).1
  have I0 := (hC.1 0 (Or.inl rfl)).2
  obtain ⟨hw2, hw24, hw3, hw34, h6⟩ := inv_w hI
  first | refine r_aload_n dX0_backShare_0 rfl ?_ | refine r_aload_nq dX0_backShare_0 rfl ?_ | refine r_aload_nN dX0_backShare_0 rfl ?_
  refine r_getfield 0 0 dX0_backShare_1 rfl (Nat.le_of_ble_eq_true rfl) (lkA q404) (Or.inl rfl) (Or.inl hX) (by rfl) ?_
  refine r_invV dX0_backShare_4 (fl_x S0 (sp_X1_sold (h := h) I0 (tn (wS 0 2)) hw2 hw24)) rfl mo_X1_sold (Or.inl (s_0 S0)) rfl (lkA q1816) (lkA q1817) (lkA q1818) rfl (lkA q65) mp_X1_sold (Nat.le_of_ble_eq_true rfl) (Nat.le_of_ble_eq_true rfl) (Nat.le_of_ble_eq_true rfl) (kr_r (fun v9 h9 p9 => ?_)) kx_r
  obtain ⟨rfl, hx9⟩ := p9
  rw [hB.1]
  refine r_istore_n dX0_backShare_7 (Nat.le_of_ble_eq_true rfl) ?_
  refine r_iload_n dX0_backShare_8 rfl ?_
  refine r_if_ne 16 dX0_backShare_9 rfl (fun c9 => ?_) (fun c9 => ?_)
  · first | refine r_aload_n dX0_backShare_16 rfl ?_ | refine r_aload_nq dX0_backShare_16 rfl ?_ | refine r_aload_nN dX0_backShare_16 rfl ?_
    refine r_getfield 0 0 dX0_backShare_17 rfl (Nat.le_of_ble_eq_true rfl) (lkA q404) (Or.inl rfl) (Or.inl (hx9 _ _ hX)) (by rfl) ?_
    refine r_invV dX0_backShare_20 (fl_x (St_ext S0 hx9) (sp_X1_back I0 (tn (wS 0 2)) hw2 hw24)) rfl mo_X1_back (Or.inl (hx9 _ _ (s_0 S0))) rfl (lkA q1820) (lkA q1821) (lkA q1822) rfl (lkA q65) mp_X1_back (Nat.le_of_ble_eq_true rfl) (Nat.le_of_ble_eq_true rfl) (Nat.le_of_ble_eq_true rfl) (kr_r (fun v8 h8 p8 => ?_)) kx_r
    obtain ⟨rfl, hx8⟩ := p8
    rw [hB.2]
    refine r_i2f dX0_backShare_23 ?_
    refine r_iload_n dX0_backShare_24 rfl ?_
    refine r_i2f dX0_backShare_25 ?_
    refine r_fdiv dX0_backShare_26 (by have h := hn; unfold oShare at h; rw [if_neg c9] at h; exact h) ?_
    exact r_freturn dX0_backShare_27 rfl ⟨congrArg (fun z => some (Value.float z)) (by unfold oShare; rw [if_neg c9]), hx9.tr hx8⟩
  · refine r_fconst0 dX0_backShare_12 ?_
    refine r_goto 27 dX0_backShare_13 rfl ?_
    exact r_freturn dX0_backShare_27 rfl ⟨congrArg (fun z => some (Value.float z)) (by unfold oShare; rw [if_pos c9]), hx9⟩

def oReason (rs dt b : Int32) : Int32 := if rs = 0 then -15 else if b = 0 then rs else dt
set_option maxHeartbeats 4000000 in
set_option maxRecDepth 100000 in
theorem sp_X0_reason {G : GG} {h : HP} (hK : KS G) {X D R hd u : Nat} {aS : Nat → Nat → Nat} {wS : Nat → Nat → Int32} {sv : Bool} {rs dt : Int32} {tx la : Nat} (hO : CO X D R hd u aS sv rs dt tx la h) (hC : CS aS wS u sv h) {D9 : Int} (hI : Inv D9 (wS 0)) {b : Int32} : Ct G 8 40 M_X0_reason [.ref X, .int b] h (rQ (fun v h' => v = some (.int (oReason rs dt b)) ∧ Ext h h')) := by
  refine ct_intro my_X0_reason (Nat.le_of_ble_eq_true rfl) ?_
  have hX := hO.1
  have S0 := (hC.1 0 (Or.inl rfl)).1
  have I0 := (hC.1 0 (Or.inl rfl)).2
  obtain ⟨hw2, hw24, hw3, hw34, h6⟩ := inv_w hI
  first | refine r_aload_n dX0_reason_0 rfl ?_ | refine r_aload_nq dX0_reason_0 rfl ?_ | refine r_aload_nN dX0_reason_0 rfl ?_
  refine r_getfield 0 3 dX0_reason_1 rfl (Nat.le_of_ble_eq_true rfl) (lkA q407) (Or.inl rfl) (Or.inl hX) (by rfl) ?_
  refine r_if_ne 12 dX0_reason_4 rfl (fun c4 => ?_) (fun c4 => ?_)
  · refine r_iload_n dX0_reason_12 rfl ?_
    refine r_if_eq 23 dX0_reason_13 rfl (fun c13 => ?_) (fun c13 => ?_)
    · first | refine r_aload_n dX0_reason_23 rfl ?_ | refine r_aload_nq dX0_reason_23 rfl ?_ | refine r_aload_nN dX0_reason_23 rfl ?_
      refine r_getfield 0 3 dX0_reason_24 rfl (Nat.le_of_ble_eq_true rfl) (lkA q407) (Or.inl rfl) (Or.inl hX) (by rfl) ?_
      exact r_ireturn dX0_reason_27 rfl (by first | rfl | exact bi_nar) ⟨congrArg (fun z => some (Value.int z)) (by unfold oReason; rw [if_neg c4, if_pos c13]), Ext.rf⟩
    · first | refine r_aload_n dX0_reason_16 rfl ?_ | refine r_aload_nq dX0_reason_16 rfl ?_ | refine r_aload_nN dX0_reason_16 rfl ?_
      refine r_getfield 0 4 dX0_reason_17 rfl (Nat.le_of_ble_eq_true rfl) (lkA q408) (Or.inl rfl) (Or.inl hX) (by rfl) ?_
      refine r_goto 27 dX0_reason_20 rfl ?_
      exact r_ireturn dX0_reason_27 rfl (by first | rfl | exact bi_nar) ⟨congrArg (fun z => some (Value.int z)) (by unfold oReason; rw [if_neg c4, if_neg c13]), Ext.rf⟩
  · refine r_bipush (v := (-15)) dX0_reason_7 rfl ?_
    refine r_goto 27 dX0_reason_9 rfl ?_
    exact r_ireturn dX0_reason_27 rfl (by first | rfl | exact bi_nar) ⟨congrArg (fun z => some (Value.int z)) (by unfold oReason; rw [if_pos c4]), Ext.rf⟩

