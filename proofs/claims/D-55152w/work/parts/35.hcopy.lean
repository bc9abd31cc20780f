set_option maxRecDepth 100000
theorem hu3 {h : HP} {m k q : Nat} {W0 B0 C B W : Bd} (e1 : m ≠ k) (e2 : m ≠ q) (e3 : k ≠ q) : hu (hu (hu (hu (hu h m W0) k B0) q C) k B) m W = hu (hu (hu h m W) k B) q C := by
  funext p
  by_cases p1 : p = m
  · subst p1
    rw [hu_s, hu_n e2, hu_n e1, hu_s]
  · by_cases p2 : p = k
    · subst p2
      rw [hu_n p1, hu_s, hu_n e3, hu_s]
    · by_cases p3 : p = q
      · subst p3
        rw [hu_n p1, hu_n p2, hu_s, hu_s]
      · rw [hu_n p1, hu_n p2, hu_n p3, hu_n p2, hu_n p1, hu_n p3, hu_n p2, hu_n p1]
theorem sp_J5_or {G : GG} {h : HP} (hK : KS G) {a wa b wb : Nat} {w : Int32} (ha : h a = some (bBs wa 0)) (hwa : h wa = some (bWd 0)) (hb : h b = some (bBs wb w)) (hwb : h wb = some (bWd w)) (hab : a ≠ b) : Ct G 1 0 M_J5_or [.ref a, .ref b] h (eQ none (hu (hu h a (bBs wa w)) wa (bWd w))) := by
  by_cases hw : w = 0
  · have e : hu (hu h a (bBs wa w)) wa (bWd w) = h := by
      rw [hw, ← hu_same ha, ← hu_same hwa]
    rw [e]
    exact sp_J5_or0 hK ha hwa hb hwb hab hw
  · have e : bBs wa w = bO 12 [.ref wa, .int 1, .int 1] := by
      rw [bBs, if_neg hw]
    rw [e]
    exact sp_J5_or1 hK ha hwa hb hwb hab hw
set_option maxHeartbeats 4000000 in
set_option maxRecDepth 100000 in
theorem sp_X2_init {G : GG} {h : HP} {a : Nat} {n : Int32} (ha : h a = some (bO 2 [.int 0, .int 0, .int 0, .int 0, .null])) : Ct G 3 6 M_X2_init [.ref a, .int n] h (rQ (fun v h' => v = none ∧ ∃ k m, h k = none ∧ h m = none ∧ m ≠ k ∧ h' = hu (hu (hu h m (bWd 0)) k (bBs m 0)) a (bO 2 [.int n, .int 5, .int (-15), .int 0, .ref k]))) := by
  refine ct_intro my_X2_init (Nat.le_of_ble_eq_true rfl) ?_
  first | refine r_aload_n dX2_init_0 rfl ?_ | refine r_aload_nq dX2_init_0 rfl ?_ | refine r_aload_nN dX2_init_0 rfl ?_
  refine r_objinit (w1 := .tt) dX2_init_1 (lkA q181) (lkA q112) (lkA q113) (Nat.le_of_ble_eq_true rfl) (Nat.le_of_ble_eq_true rfl) ?_
  first | refine r_aload_n dX2_init_4 rfl ?_ | refine r_aload_nq dX2_init_4 rfl ?_ | refine r_aload_nN dX2_init_4 rfl ?_
  refine r_iconst (v := 5) dX2_init_5 rfl ?_
  refine r_put 2 1 dX2_init_6 rfl (Nat.le_of_ble_eq_true rfl) (lkA q209) (Or.inl rfl) rfl (by repeat' first | assumption | exact hu_s | refine hu_o (by assumption) ?_ | refine (hu_n (by first | assumption | exact Ne.symm (by assumption) | exact ne_o (by assumption) (by assumption) | exact Ne.symm (ne_o (by assumption) (by assumption)))).trans ?_) (by dsimp only [List.set]) (Nat.le_of_ble_eq_true rfl) rfl rfl (by first | exact hu_hu | exact rfl) ?_
  first | refine r_aload_n dX2_init_9 rfl ?_ | refine r_aload_nq dX2_init_9 rfl ?_ | refine r_aload_nN dX2_init_9 rfl ?_
  refine r_bipush (v := (-15)) dX2_init_10 rfl ?_
  refine r_put 2 2 dX2_init_12 rfl (Nat.le_of_ble_eq_true rfl) (lkA q211) (Or.inl rfl) rfl (by repeat' first | assumption | exact hu_s | refine hu_o (by assumption) ?_ | refine (hu_n (by first | assumption | exact Ne.symm (by assumption) | exact ne_o (by assumption) (by assumption) | exact Ne.symm (ne_o (by assumption) (by assumption)))).trans ?_) (by dsimp only [List.set]) (Nat.le_of_ble_eq_true rfl) rfl rfl (by first | exact hu_hu | exact rfl) ?_
  first | refine r_aload_n dX2_init_15 rfl ?_ | refine r_aload_nq dX2_init_15 rfl ?_ | refine r_aload_nN dX2_init_15 rfl ?_
  refine r_new 12 [.null, .int 0, .int 0] dX2_init_16 rfl (lkA q182) (lkA q183) (lkA q72) (fun j hj => match j, hj with | 0, _ => rfl | 1, _ => rfl | 2, _ => rfl | k + 3, hk => absurd hk (Nat.not_lt.mpr (Nat.le_add_left 3 k))) (Nat.le_of_ble_eq_true rfl) (fun q16 hq16 => ?_)
  refine r_dup dX2_init_19 rfl ?_
  refine r_iconst (v := 3) dX2_init_20 rfl ?_
  refine r_invI dX2_init_21 (sp_J5_init hu_s) rfl mo_J5_init (lkA q184) (lkA q185) rfl rfl rfl (lkA q72) mp_J5_init (Nat.le_of_ble_eq_true rfl) (Nat.le_of_ble_eq_true rfl) (Nat.le_of_ble_eq_true rfl) (kr_r (fun v9 h9 p9 => ?_)) kx_r
  obtain ⟨rfl, m, hm, rfl⟩ := p9
  have e1 := ov_none_hu hm
  have e2 := ov_none_hu e1.2
  have e3 := ov_none_hu hq16
  rw [hu_c (Ne.symm e1.1), hu_hu, hu_c (Ne.symm e2.1), hu_c (Ne.symm e3.1)]
  refine r_putF 2 4 dX2_init_24 rfl (Nat.le_of_ble_eq_true rfl) (lkA q214) rfl rfl rfl (by repeat' first | assumption | exact hu_s | refine hu_o (by assumption) ?_ | refine (hu_n (by first | assumption | exact Ne.symm (by assumption) | exact ne_o (by assumption) (by assumption) | exact Ne.symm (ne_o (by assumption) (by assumption)))).trans ?_) (by dsimp only [List.set]) (Nat.le_of_ble_eq_true rfl) rfl rfl (by first | exact hu_hu | exact rfl) ?_
  first | refine r_aload_n dX2_init_27 rfl ?_ | refine r_aload_nq dX2_init_27 rfl ?_ | refine r_aload_nN dX2_init_27 rfl ?_
  refine r_iload_n dX2_init_28 rfl ?_
  refine r_putF 2 0 dX2_init_29 rfl (Nat.le_of_ble_eq_true rfl) (lkA q207) rfl rfl rfl (by repeat' first | assumption | exact hu_s | refine hu_o (by assumption) ?_ | refine (hu_n (by first | assumption | exact Ne.symm (by assumption) | exact ne_o (by assumption) (by assumption) | exact Ne.symm (ne_o (by assumption) (by assumption)))).trans ?_) (by dsimp only [List.set]) (Nat.le_of_ble_eq_true rfl) rfl rfl (by first | exact hu_hu | exact rfl) ?_
  exact r_return dX2_init_32 rfl ⟨rfl, q16, m, e3.2, e2.2, e1.1, rfl⟩

set_option maxHeartbeats 4000000 in
set_option maxRecDepth 100000 in
theorem sp_X2_copy {G : GG} {h : HP} (hK : KS G) {a : Nat} {nr t dg bt : Int32} {b : Nat} (ha : h a = some (bO 2 [.int nr, .int t, .int dg, .int bt, .ref b])) {wa : Nat} {w : Int32} (hb : h b = some (bBs wa w)) (hwa : h wa = some (bWd w))  : Ct G 4 12 M_X2_copy [.ref a] h (rQ (fun v h' => ∃ q k m, v = some (.ref q) ∧ h q = none ∧ h k = none ∧ h m = none ∧ m ≠ k ∧ m ≠ q ∧ k ≠ q ∧ h' = hu (hu (hu h m (bWd w)) k (bBs m w)) q (bO 2 [.int nr, .int t, .int dg, .int bt, .ref k]))) := by
  refine ct_intro my_X2_copy (Nat.le_of_ble_eq_true rfl) ?_
  refine r_new 2 [.int 0, .int 0, .int 0, .int 0, .null] dX2_copy_0 rfl (lkA q458) (lkA q177) (lkA q71) (fun j hj => match j, hj with | 0, _ => rfl | 1, _ => rfl | 2, _ => rfl | 3, _ => rfl | 4, _ => rfl | k + 5, hk => absurd hk (Nat.not_lt.mpr (Nat.le_add_left 5 k))) (Nat.le_of_ble_eq_true rfl) (fun q0 hq0 => ?_)
  refine r_dup dX2_copy_3 rfl ?_
  first | refine r_aload_n dX2_copy_4 rfl ?_ | refine r_aload_nq dX2_copy_4 rfl ?_ | refine r_aload_nN dX2_copy_4 rfl ?_
  refine r_getfield 2 0 dX2_copy_5 rfl (Nat.le_of_ble_eq_true rfl) (lkA q207) (Or.inl rfl) (by first | exact Or.inl (by assumption) | assumption | (refine Or.inl ?_; repeat' first | assumption | exact hu_s | refine hu_o (by assumption) ?_ | refine (hu_n (by first | assumption | exact Ne.symm (by assumption) | exact ne_o (by assumption) (by assumption) | exact Ne.symm (ne_o (by assumption) (by assumption)))).trans ?_)) (by rfl) ?_
  refine r_invI dX2_copy_8 (sp_X2_init (n := nr) hu_s) rfl mo_X2_init (lkA q459) (lkA q179) rfl rfl rfl (lkA q71) mp_X2_init (Nat.le_of_ble_eq_true rfl) (Nat.le_of_ble_eq_true rfl) (Nat.le_of_ble_eq_true rfl) (kr_r (fun v9 h9 p9 => ?_)) kx_r
  obtain ⟨rfl, k, m, hk, hm, emk, rfl⟩ := p9
  have ek := ov_none_hu hk
  have em := ov_none_hu hm
  rw [hu_c (Ne.symm em.1), hu_c (Ne.symm ek.1), hu_hu]
  have F : ∀ (x : Nat) (y : Bd) (Y1 Y2 Y3 : Bd), h x = some y → hu (hu (hu h m Y1) k Y2) q0 Y3 x = some y := fun x y Y1 Y2 Y3 hx => (hu_n (ne_o hq0 hx)).trans ((hu_n (ne_o ek.2 hx)).trans ((hu_n (ne_o em.2 hx)).trans hx))
  first | refine r_astore_n dX2_copy_11 (Nat.le_of_ble_eq_true rfl) ?_ | refine r_astore_nq dX2_copy_11 (Nat.le_of_ble_eq_true rfl) ?_ | refine r_astore_nN dX2_copy_11 (Nat.le_of_ble_eq_true rfl) ?_
  first | refine r_aload_n dX2_copy_12 rfl ?_ | refine r_aload_nq dX2_copy_12 rfl ?_ | refine r_aload_nN dX2_copy_12 rfl ?_
  first | refine r_aload_n dX2_copy_13 rfl ?_ | refine r_aload_nq dX2_copy_13 rfl ?_ | refine r_aload_nN dX2_copy_13 rfl ?_
  refine r_getfield 2 1 dX2_copy_14 rfl (Nat.le_of_ble_eq_true rfl) (lkA q209) (Or.inl rfl) (Or.inl (F _ _ _ _ _ ha)) (by rfl) ?_
  refine r_put 2 1 dX2_copy_17 rfl (Nat.le_of_ble_eq_true rfl) (lkA q209) (Or.inl rfl) rfl (by repeat' first | assumption | exact hu_s | refine hu_o (by assumption) ?_ | refine (hu_n (by first | assumption | exact Ne.symm (by assumption) | exact ne_o (by assumption) (by assumption) | exact Ne.symm (ne_o (by assumption) (by assumption)))).trans ?_) (by dsimp only [List.set]) (Nat.le_of_ble_eq_true rfl) rfl rfl (by first | exact hu_hu | exact rfl) ?_
  first | refine r_aload_n dX2_copy_20 rfl ?_ | refine r_aload_nq dX2_copy_20 rfl ?_ | refine r_aload_nN dX2_copy_20 rfl ?_
  first | refine r_aload_n dX2_copy_21 rfl ?_ | refine r_aload_nq dX2_copy_21 rfl ?_ | refine r_aload_nN dX2_copy_21 rfl ?_
  refine r_getfield 2 2 dX2_copy_22 rfl (Nat.le_of_ble_eq_true rfl) (lkA q211) (Or.inl rfl) (Or.inl (F _ _ _ _ _ ha)) (by rfl) ?_
  refine r_put 2 2 dX2_copy_25 rfl (Nat.le_of_ble_eq_true rfl) (lkA q211) (Or.inl rfl) rfl (by repeat' first | assumption | exact hu_s | refine hu_o (by assumption) ?_ | refine (hu_n (by first | assumption | exact Ne.symm (by assumption) | exact ne_o (by assumption) (by assumption) | exact Ne.symm (ne_o (by assumption) (by assumption)))).trans ?_) (by dsimp only [List.set]) (Nat.le_of_ble_eq_true rfl) rfl rfl (by first | exact hu_hu | exact rfl) ?_
  first | refine r_aload_n dX2_copy_28 rfl ?_ | refine r_aload_nq dX2_copy_28 rfl ?_ | refine r_aload_nN dX2_copy_28 rfl ?_
  first | refine r_aload_n dX2_copy_29 rfl ?_ | refine r_aload_nq dX2_copy_29 rfl ?_ | refine r_aload_nN dX2_copy_29 rfl ?_
  refine r_getfield 2 3 dX2_copy_30 rfl (Nat.le_of_ble_eq_true rfl) (lkA q213) (Or.inl rfl) (Or.inl (F _ _ _ _ _ ha)) (by rfl) ?_
  refine r_put 2 3 dX2_copy_33 rfl (Nat.le_of_ble_eq_true rfl) (lkA q213) (Or.inl rfl) rfl (by repeat' first | assumption | exact hu_s | refine hu_o (by assumption) ?_ | refine (hu_n (by first | assumption | exact Ne.symm (by assumption) | exact ne_o (by assumption) (by assumption) | exact Ne.symm (ne_o (by assumption) (by assumption)))).trans ?_) (by dsimp only [List.set]) (Nat.le_of_ble_eq_true rfl) rfl rfl (by first | exact hu_hu | exact rfl) ?_
  first | refine r_aload_n dX2_copy_36 rfl ?_ | refine r_aload_nq dX2_copy_36 rfl ?_ | refine r_aload_nN dX2_copy_36 rfl ?_
  refine r_getfield 2 4 dX2_copy_37 rfl (Nat.le_of_ble_eq_true rfl) (lkA q214) (Or.inl rfl) (by first | exact Or.inl (by assumption) | assumption | (refine Or.inl ?_; repeat' first | assumption | exact hu_s | refine hu_o (by assumption) ?_ | refine (hu_n (by first | assumption | exact Ne.symm (by assumption) | exact ne_o (by assumption) (by assumption) | exact Ne.symm (ne_o (by assumption) (by assumption)))).trans ?_)) (by rfl) ?_
  first | refine r_aload_n dX2_copy_40 rfl ?_ | refine r_aload_nq dX2_copy_40 rfl ?_ | refine r_aload_nN dX2_copy_40 rfl ?_
  refine r_getfield 2 4 dX2_copy_41 rfl (Nat.le_of_ble_eq_true rfl) (lkA q214) (Or.inl rfl) (Or.inl (F _ _ _ _ _ ha)) (by rfl) ?_
  refine r_invV dX2_copy_44 (sp_J5_or hK ((hu_n ek.1).trans hu_s) ((hu_n em.1).trans ((hu_n emk).trans hu_s)) (F _ _ _ _ _ hb) (F _ _ _ _ _ hwa) (Ne.symm (ne_o ek.2 hb))) rfl mo_J5_or (Or.inl ((hu_n ek.1).trans hu_s)) rfl (lkA q460) (lkA q461) (lkA q462) rfl (lkA q72) mp_J5_or (Nat.le_of_ble_eq_true rfl) (Nat.le_of_ble_eq_true rfl) (Nat.le_of_ble_eq_true rfl) (kr_e ?_) kx_e
  rw [hu3 emk em.1 ek.1]
  first | refine r_aload_n dX2_copy_47 rfl ?_ | refine r_aload_nq dX2_copy_47 rfl ?_ | refine r_aload_nN dX2_copy_47 rfl ?_
  first | exact r_areturn dX2_copy_48 rfl rfl ⟨q0, k, m, rfl, hq0, ek.2, em.2, emk, em.1, ek.1, rfl⟩ | exact r_areturnq dX2_copy_48 rfl rfl ⟨q0, k, m, rfl, hq0, ek.2, em.2, emk, em.1, ek.1, rfl⟩ | exact r_areturnN dX2_copy_48 rfl rfl ⟨q0, k, m, rfl, hq0, ek.2, em.2, emk, em.1, ek.1, rfl⟩

