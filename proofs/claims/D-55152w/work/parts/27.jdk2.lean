set_option maxRecDepth 100000
set_option maxHeartbeats 4000000 in
set_option maxRecDepth 100000 in
theorem sp_J16_init {G : GG} {h : HP} {b a r : Nat} {mc n : Int32} {x0 x1 x2 x3 : Value} (hb : h b = some (bO 16 [x0, x1, x2, x3])) (hl : h a = some (bO 10 [.int mc, .ref r, .int n])) : Ct G 1 0 M_J16_init [.ref b, .ref a] h (eQ none (hu h b (bO 16 [x0, .int (-1), .int mc, .ref a]))) := by
  refine ct_intro my_J16_init (Nat.le_of_ble_eq_true rfl) ?_
  first | refine r_aload_n dJ16_init_0 rfl ?_ | refine r_aload_nq dJ16_init_0 rfl ?_ | refine r_aload_nN dJ16_init_0 rfl ?_
  first | refine r_aload_n dJ16_init_1 rfl ?_ | refine r_aload_nq dJ16_init_1 rfl ?_ | refine r_aload_nN dJ16_init_1 rfl ?_
  refine r_putF 16 3 dJ16_init_2 rfl (Nat.le_of_ble_eq_true rfl) (lkA q506) rfl rfl rfl (by repeat' first | assumption | exact hu_s | refine hu_o (by assumption) ?_ | refine (hu_n (by first | assumption | exact Ne.symm (by assumption) | exact ne_o (by assumption) (by assumption) | exact Ne.symm (ne_o (by assumption) (by assumption)))).trans ?_) (by dsimp only [List.set]) (Nat.le_of_ble_eq_true rfl) rfl rfl (by first | exact hu_hu | exact rfl) ?_
  first | refine r_aload_n dJ16_init_5 rfl ?_ | refine r_aload_nq dJ16_init_5 rfl ?_ | refine r_aload_nN dJ16_init_5 rfl ?_
  refine r_objinit (w1 := .tt) dJ16_init_6 (lkA q500) (lkA q112) (lkA q113) (Nat.le_of_ble_eq_true rfl) (Nat.le_of_ble_eq_true rfl) ?_
  first | refine r_aload_n dJ16_init_9 rfl ?_ | refine r_aload_nq dJ16_init_9 rfl ?_ | refine r_aload_nN dJ16_init_9 rfl ?_
  refine r_iconst (v := (-1)) dJ16_init_10 rfl ?_
  refine r_put 16 1 dJ16_init_11 rfl (Nat.le_of_ble_eq_true rfl) (lkA q504) (Or.inl rfl) rfl (by repeat' first | assumption | exact hu_s | refine hu_o (by assumption) ?_ | refine (hu_n (by first | assumption | exact Ne.symm (by assumption) | exact ne_o (by assumption) (by assumption) | exact Ne.symm (ne_o (by assumption) (by assumption)))).trans ?_) (by dsimp only [List.set]) (Nat.le_of_ble_eq_true rfl) rfl rfl (by first | exact hu_hu | exact rfl) ?_
  first | refine r_aload_n dJ16_init_14 rfl ?_ | refine r_aload_nq dJ16_init_14 rfl ?_ | refine r_aload_nN dJ16_init_14 rfl ?_
  first | refine r_aload_n dJ16_init_15 rfl ?_ | refine r_aload_nq dJ16_init_15 rfl ?_ | refine r_aload_nN dJ16_init_15 rfl ?_
  refine r_getfield 16 3 dJ16_init_16 rfl (Nat.le_of_ble_eq_true rfl) (lkA q506) (Or.inl rfl) (by first | exact Or.inl (by assumption) | assumption | (refine Or.inl ?_; repeat' first | assumption | exact hu_s | refine hu_o (by assumption) ?_ | refine (hu_n (by first | assumption | exact Ne.symm (by assumption) | exact ne_o (by assumption) (by assumption) | exact Ne.symm (ne_o (by assumption) (by assumption)))).trans ?_)) (by rfl) ?_
  refine r_getfield 10 0 dJ16_init_19 rfl (Nat.le_of_ble_eq_true rfl) (lkA q143) (Or.inr (lkA q144)) (Or.inl ((hu_n (ne_O hb hl (by decide))).trans hl)) (by rfl) ?_
  refine r_put 16 2 dJ16_init_22 rfl (Nat.le_of_ble_eq_true rfl) (lkA q505) (Or.inl rfl) rfl (by repeat' first | assumption | exact hu_s | refine hu_o (by assumption) ?_ | refine (hu_n (by first | assumption | exact Ne.symm (by assumption) | exact ne_o (by assumption) (by assumption) | exact Ne.symm (ne_o (by assumption) (by assumption)))).trans ?_) (by dsimp only [List.set]) (Nat.le_of_ble_eq_true rfl) rfl rfl (by first | exact hu_hu | exact rfl) ?_
  exact r_return dJ16_init_25 rfl ⟨rfl, rfl⟩

set_option maxHeartbeats 4000000 in
set_option maxRecDepth 100000 in
theorem sp_J2_iterator {G : GG} {h : HP} {a r : Nat} {mc n : Int32} (hl : h a = some (bO 10 [.int mc, .ref r, .int n])) : Ct G 2 5 M_J2_iterator [.ref a] h (rQ (fun v h' => ∃ q, v = some (.ref q) ∧ h q = none ∧ h' = hu h q (bO 16 [.int 0, .int (-1), .int mc, .ref a]))) := by
  refine ct_intro my_J2_iterator (Nat.le_of_ble_eq_true rfl) ?_
  refine r_new 16 [.int 0, .int 0, .int 0, .null] dJ2_iterator_0 rfl (lkA q495) (lkA q496) (lkA q85) (fun j hj => match j, hj with | 0, _ => rfl | 1, _ => rfl | 2, _ => rfl | 3, _ => rfl | k + 4, hk => absurd hk (Nat.not_lt.mpr (Nat.le_add_left 4 k))) (Nat.le_of_ble_eq_true rfl) (fun q0 hq0 => ?_)
  refine r_dup dJ2_iterator_3 rfl ?_
  first | refine r_aload_n dJ2_iterator_4 rfl ?_ | refine r_aload_nq dJ2_iterator_4 rfl ?_ | refine r_aload_nN dJ2_iterator_4 rfl ?_
  refine r_invI dJ2_iterator_5 (sp_J16_init hu_s (hu_o hq0 hl)) rfl mo_J16_init (lkA q497) (lkA q498) rfl rfl rfl (lkA q85) mp_J16_init (Nat.le_of_ble_eq_true rfl) (Nat.le_of_ble_eq_true rfl) (Nat.le_of_ble_eq_true rfl) (kr_e ?_) kx_e
  try simp only [hu_hu]
  first | exact r_areturn dJ2_iterator_8 rfl rfl ⟨q0, rfl, hq0, rfl⟩ | exact r_areturnq dJ2_iterator_8 rfl rfl ⟨q0, rfl, hq0, rfl⟩ | exact r_areturnN dJ2_iterator_8 rfl rfl ⟨q0, rfl, hq0, rfl⟩

set_option maxHeartbeats 4000000 in
set_option maxRecDepth 100000 in
theorem sp_J16_hasNext {G : GG} {h : HP} {b a r : Nat} {mc n cu lr : Int32} (hb : h b = some (bO 16 [.int cu, .int lr, .int mc, .ref a])) (hl : h a = some (bO 10 [.int mc, .ref r, .int n])) : Ct G 0 0 M_J16_hasNext [.ref b] h (eQ (some (.int (if cu = n then 0 else 1))) h) := by
  refine ct_intro my_J16_hasNext (Nat.le_of_ble_eq_true rfl) ?_
  first | refine r_aload_n dJ16_hasNext_0 rfl ?_ | refine r_aload_nq dJ16_hasNext_0 rfl ?_ | refine r_aload_nN dJ16_hasNext_0 rfl ?_
  refine r_getfield 16 0 dJ16_hasNext_1 rfl (Nat.le_of_ble_eq_true rfl) (lkA q503) (Or.inl rfl) (by first | exact Or.inl (by assumption) | assumption | (refine Or.inl ?_; repeat' first | assumption | exact hu_s | refine hu_o (by assumption) ?_ | refine (hu_n (by first | assumption | exact Ne.symm (by assumption) | exact ne_o (by assumption) (by assumption) | exact Ne.symm (ne_o (by assumption) (by assumption)))).trans ?_)) (by rfl) ?_
  first | refine r_aload_n dJ16_hasNext_4 rfl ?_ | refine r_aload_nq dJ16_hasNext_4 rfl ?_ | refine r_aload_nN dJ16_hasNext_4 rfl ?_
  refine r_getfield 16 3 dJ16_hasNext_5 rfl (Nat.le_of_ble_eq_true rfl) (lkA q506) (Or.inl rfl) (by first | exact Or.inl (by assumption) | assumption | (refine Or.inl ?_; repeat' first | assumption | exact hu_s | refine hu_o (by assumption) ?_ | refine (hu_n (by first | assumption | exact Ne.symm (by assumption) | exact ne_o (by assumption) (by assumption) | exact Ne.symm (ne_o (by assumption) (by assumption)))).trans ?_)) (by rfl) ?_
  refine r_getfieldN 10 2 dJ16_hasNext_8 rfl (Nat.le_of_ble_eq_true rfl) (lkT q138 rfl) (Or.inl rfl) (by first | exact Or.inl (by assumption) | assumption | (refine Or.inl ?_; repeat' first | assumption | exact hu_s | refine hu_o (by assumption) ?_ | refine (hu_n (by first | assumption | exact Ne.symm (by assumption) | exact ne_o (by assumption) (by assumption) | exact Ne.symm (ne_o (by assumption) (by assumption)))).trans ?_)) (by rfl) ?_
  refine r_icmp_eq 18 dJ16_hasNext_11 rfl (fun c11 => ?_) (fun c11 => ?_)
  · refine r_iconst (v := 0) dJ16_hasNext_18 rfl ?_
    exact r_ireturn dJ16_hasNext_19 rfl (by first | rfl | exact bi_nar) (by rw [if_pos c11]; exact ⟨rfl, rfl⟩)
  · refine r_iconst (v := 1) dJ16_hasNext_14 rfl ?_
    refine r_goto 19 dJ16_hasNext_15 rfl ?_
    exact r_ireturn dJ16_hasNext_19 rfl (by first | rfl | exact bi_nar) (by rw [if_neg c11]; exact ⟨rfl, rfl⟩)

set_option maxHeartbeats 4000000 in
set_option maxRecDepth 100000 in
theorem sp_J16_checkForComodification {G : GG} {h : HP} {b a r : Nat} {mc n cu lr : Int32} (hb : h b = some (bO 16 [.int cu, .int lr, .int mc, .ref a])) (hl : h a = some (bO 10 [.int mc, .ref r, .int n])) : Ct G 0 0 M_J16_checkForComodification [.ref b] h (eQ none h) := by
  refine ct_intro my_J16_checkForComodification (Nat.le_of_ble_eq_true rfl) ?_
  first | refine r_aload_n dJ16_checkForComodification_0 rfl ?_ | refine r_aload_nq dJ16_checkForComodification_0 rfl ?_ | refine r_aload_nN dJ16_checkForComodification_0 rfl ?_
  refine r_getfield 16 3 dJ16_checkForComodification_1 rfl (Nat.le_of_ble_eq_true rfl) (lkA q506) (Or.inl rfl) (by first | exact Or.inl (by assumption) | assumption | (refine Or.inl ?_; repeat' first | assumption | exact hu_s | refine hu_o (by assumption) ?_ | refine (hu_n (by first | assumption | exact Ne.symm (by assumption) | exact ne_o (by assumption) (by assumption) | exact Ne.symm (ne_o (by assumption) (by assumption)))).trans ?_)) (by rfl) ?_
  refine r_getfield 10 0 dJ16_checkForComodification_4 rfl (Nat.le_of_ble_eq_true rfl) (lkA q143) (Or.inr (lkA q144)) (by first | exact Or.inl (by assumption) | assumption | (refine Or.inl ?_; repeat' first | assumption | exact hu_s | refine hu_o (by assumption) ?_ | refine (hu_n (by first | assumption | exact Ne.symm (by assumption) | exact ne_o (by assumption) (by assumption) | exact Ne.symm (ne_o (by assumption) (by assumption)))).trans ?_)) (by rfl) ?_
  first | refine r_aload_n dJ16_checkForComodification_7 rfl ?_ | refine r_aload_nq dJ16_checkForComodification_7 rfl ?_ | refine r_aload_nN dJ16_checkForComodification_7 rfl ?_
  refine r_getfield 16 2 dJ16_checkForComodification_8 rfl (Nat.le_of_ble_eq_true rfl) (lkA q505) (Or.inl rfl) (by first | exact Or.inl (by assumption) | assumption | (refine Or.inl ?_; repeat' first | assumption | exact hu_s | refine hu_o (by assumption) ?_ | refine (hu_n (by first | assumption | exact Ne.symm (by assumption) | exact ne_o (by assumption) (by assumption) | exact Ne.symm (ne_o (by assumption) (by assumption)))).trans ?_)) (by rfl) ?_
  refine r_icmp_eq 22 dJ16_checkForComodification_11 rfl (fun c11 => ?_) (fun c11 => absurd c11 (by intro hq; exact hq rfl))
  exact r_return dJ16_checkForComodification_22 rfl (by first | exact ⟨rfl, rfl⟩ | rfl)

set_option maxHeartbeats 4000000 in
set_option maxRecDepth 100000 in
theorem sp_J16_next {G : GG} {h : HP} {b a r N j x : Nat} {mc n cu lr : Int32} {f : Nat → Option Nat} (hb : h b = some (bO 16 [.int cu, .int lr, .int mc, .ref a])) (hl : h a = some (bO 10 [.int mc, .ref r, .int n])) (hr : h r = some (bR 3 N f)) (hj : cu.toInt = (j : Int)) (hjn : (j : Int) < n.toInt) (hjN : j < N) (hN : N < 1000) (hv : f j = some x) : Ct G 1 0 M_J16_next [.ref b] h (eQ (some (.ref x)) (hu h b (bO 16 [.int (cu + 1), .int cu, .int mc, .ref a]))) := by
  refine ct_intro my_J16_next (Nat.le_of_ble_eq_true rfl) ?_
  first | refine r_aload_n dJ16_next_0 rfl ?_ | refine r_aload_nq dJ16_next_0 rfl ?_ | refine r_aload_nN dJ16_next_0 rfl ?_
  refine r_invV dJ16_next_1 (sp_J16_checkForComodification hb hl) rfl mo_J16_checkForComodification (by first | exact Or.inl (by assumption) | assumption | (refine Or.inl ?_; repeat' first | assumption | exact hu_s | refine hu_o (by assumption) ?_ | refine (hu_n (by first | assumption | exact Ne.symm (by assumption) | exact ne_o (by assumption) (by assumption) | exact Ne.symm (ne_o (by assumption) (by assumption)))).trans ?_)) rfl (lkA q844) (lkA q845) (lkA q846) rfl (lkA q85) mp_J16_checkForComodification (Nat.le_of_ble_eq_true rfl) (Nat.le_of_ble_eq_true rfl) (Nat.le_of_ble_eq_true rfl) (kr_e ?_) kx_e
  first | refine r_aload_n dJ16_next_4 rfl ?_ | refine r_aload_nq dJ16_next_4 rfl ?_ | refine r_aload_nN dJ16_next_4 rfl ?_
  refine r_getfield 16 0 dJ16_next_5 rfl (Nat.le_of_ble_eq_true rfl) (lkA q503) (Or.inl rfl) (by first | exact Or.inl (by assumption) | assumption | (refine Or.inl ?_; repeat' first | assumption | exact hu_s | refine hu_o (by assumption) ?_ | refine (hu_n (by first | assumption | exact Ne.symm (by assumption) | exact ne_o (by assumption) (by assumption) | exact Ne.symm (ne_o (by assumption) (by assumption)))).trans ?_)) (by rfl) ?_
  refine r_istore_n dJ16_next_8 (Nat.le_of_ble_eq_true rfl) ?_
  refine r_iload_n dJ16_next_9 rfl ?_
  first | refine r_aload_n dJ16_next_10 rfl ?_ | refine r_aload_nq dJ16_next_10 rfl ?_ | refine r_aload_nN dJ16_next_10 rfl ?_
  refine r_getfield 16 3 dJ16_next_11 rfl (Nat.le_of_ble_eq_true rfl) (lkA q506) (Or.inl rfl) (by first | exact Or.inl (by assumption) | assumption | (refine Or.inl ?_; repeat' first | assumption | exact hu_s | refine hu_o (by assumption) ?_ | refine (hu_n (by first | assumption | exact Ne.symm (by assumption) | exact ne_o (by assumption) (by assumption) | exact Ne.symm (ne_o (by assumption) (by assumption)))).trans ?_)) (by rfl) ?_
  refine r_getfieldN 10 2 dJ16_next_14 rfl (Nat.le_of_ble_eq_true rfl) (lkT q138 rfl) (Or.inl rfl) (by first | exact Or.inl (by assumption) | assumption | (refine Or.inl ?_; repeat' first | assumption | exact hu_s | refine hu_o (by assumption) ?_ | refine (hu_n (by first | assumption | exact Ne.symm (by assumption) | exact ne_o (by assumption) (by assumption) | exact Ne.symm (ne_o (by assumption) (by assumption)))).trans ?_)) (by rfl) ?_
  refine r_icmp_lt 28 dJ16_next_17 rfl (fun c17 => ?_) (fun c17 => absurd c17 (by intro hq; simp only [i32_eq, Int32.lt_iff_toInt_lt, Int32.le_iff_toInt_le, tI_add, tI_sub, tI_mul, tI_neg, Int32.reduceToInt] at hq; omega))
  first | refine r_aload_n dJ16_next_28 rfl ?_ | refine r_aload_nq dJ16_next_28 rfl ?_ | refine r_aload_nN dJ16_next_28 rfl ?_
  refine r_getfield 16 3 dJ16_next_29 rfl (Nat.le_of_ble_eq_true rfl) (lkA q506) (Or.inl rfl) (by first | exact Or.inl (by assumption) | assumption | (refine Or.inl ?_; repeat' first | assumption | exact hu_s | refine hu_o (by assumption) ?_ | refine (hu_n (by first | assumption | exact Ne.symm (by assumption) | exact ne_o (by assumption) (by assumption) | exact Ne.symm (ne_o (by assumption) (by assumption)))).trans ?_)) (by rfl) ?_
  refine r_getfield 10 1 dJ16_next_32 rfl (Nat.le_of_ble_eq_true rfl) (lkA q137) (Or.inl rfl) (by first | exact Or.inl (by assumption) | assumption | (refine Or.inl ?_; repeat' first | assumption | exact hu_s | refine hu_o (by assumption) ?_ | refine (hu_n (by first | assumption | exact Ne.symm (by assumption) | exact ne_o (by assumption) (by assumption) | exact Ne.symm (ne_o (by assumption) (by assumption)))).trans ?_)) (by rfl) ?_
  first | refine r_astore_n dJ16_next_35 (Nat.le_of_ble_eq_true rfl) ?_ | refine r_astore_nq dJ16_next_35 (Nat.le_of_ble_eq_true rfl) ?_ | refine r_astore_nN dJ16_next_35 (Nat.le_of_ble_eq_true rfl) ?_
  refine r_iload_n dJ16_next_36 rfl ?_
  first | refine r_aload_n dJ16_next_37 rfl ?_ | refine r_aload_nq dJ16_next_37 rfl ?_ | refine r_aload_nN dJ16_next_37 rfl ?_
  refine r_alenR _ (Nat.le_of_ble_eq_true rfl) dJ16_next_38 (by first | exact Or.inl (by assumption) | assumption | (refine Or.inl ?_; repeat' first | assumption | exact hu_s | refine hu_o (by assumption) ?_ | refine (hu_n (by first | assumption | exact Ne.symm (by assumption) | exact ne_o (by assumption) (by assumption) | exact Ne.symm (ne_o (by assumption) (by assumption)))).trans ?_)) rfl ?_
  refine r_icmp_lt 50 dJ16_next_39 rfl (fun c39 => ?_) (fun c39 => absurd c39 (by intro hq; rw [Int32.lt_iff_toInt_lt, nI_toInt (by omega)] at hq; omega))
  first | refine r_aload_n dJ16_next_50 rfl ?_ | refine r_aload_nq dJ16_next_50 rfl ?_ | refine r_aload_nN dJ16_next_50 rfl ?_
  refine r_iload_n dJ16_next_51 rfl ?_
  refine r_iconst (v := 1) dJ16_next_52 rfl ?_
  refine r_iadd dJ16_next_53 ?_
  refine r_put 16 0 dJ16_next_54 rfl (Nat.le_of_ble_eq_true rfl) (lkA q503) (Or.inl rfl) rfl (by repeat' first | assumption | exact hu_s | refine hu_o (by assumption) ?_ | refine (hu_n (by first | assumption | exact Ne.symm (by assumption) | exact ne_o (by assumption) (by assumption) | exact Ne.symm (ne_o (by assumption) (by assumption)))).trans ?_) (by dsimp only [List.set]) (Nat.le_of_ble_eq_true rfl) rfl rfl (by first | exact hu_hu | exact rfl) ?_
  first | refine r_aload_n dJ16_next_57 rfl ?_ | refine r_aload_nq dJ16_next_57 rfl ?_ | refine r_aload_nN dJ16_next_57 rfl ?_
  first | refine r_aload_n dJ16_next_58 rfl ?_ | refine r_aload_nq dJ16_next_58 rfl ?_ | refine r_aload_nN dJ16_next_58 rfl ?_
  refine r_iload_n dJ16_next_59 rfl ?_
  refine r_dup_x1 dJ16_next_60 rfl rfl ?_
  refine r_put 16 1 dJ16_next_61 rfl (Nat.le_of_ble_eq_true rfl) (lkA q504) (Or.inl rfl) rfl (by repeat' first | assumption | exact hu_s | refine hu_o (by assumption) ?_ | refine (hu_n (by first | assumption | exact Ne.symm (by assumption) | exact ne_o (by assumption) (by assumption) | exact Ne.symm (ne_o (by assumption) (by assumption)))).trans ?_) (by dsimp only [List.set]) (Nat.le_of_ble_eq_true rfl) rfl rfl (by first | exact hu_hu | exact rfl) ?_
  refine r_aaload (j) (Or.inl rfl) dJ16_next_64 (Or.inl ((hu_n (Ne.symm (ne_b hr hb (fun e => by cases e)))).trans hr)) hj hjN hv ?_
  first | exact r_areturn dJ16_next_65 rfl rfl ⟨rfl, rfl⟩ | exact r_areturnq dJ16_next_65 rfl rfl ⟨rfl, rfl⟩ | exact r_areturnN dJ16_next_65 rfl rfl ⟨rfl, rfl⟩

/-- the node number j of n, if there is one -/
def inx (nd : Nat → Nat) (n j : Nat) : Option Nat := if j < n then some (nd j) else none
/-- the node ahead of number j -/
def ipv (nd : Nat → Nat) (j : Nat) : Option Nat := if j = 0 then none else some (nd (j - 1))
theorem inx_s {nd : Nat → Nat} {n j : Nat} (h : j < n) : inx nd n j = some (nd j) := if_pos h
theorem inx_n {nd : Nat → Nat} {n j : Nat} (h : n ≤ j) : inx nd n j = none := if_neg (by omega)
theorem ipv_s {nd : Nat → Nat} {j : Nat} : ipv nd (j + 1) = some (nd j) := by simp [ipv]
theorem ipv_0 {nd : Nat → Nat} : ipv nd 0 = none := rfl
abbrev bLL (mc n9 : Int32) (nd : Nat → Nat) (n : Nat) : Bd := bO 11 [.int mc, .int n9, va_rf (inx nd n 0), va_rf (ipv nd n)]
abbrev bNd (nd it : Nat → Nat) (n i : Nat) : Bd := bO 18 [.ref (it i), va_rf (inx nd n (i + 1)), va_rf (ipv nd i)]
set_option maxHeartbeats 4000000 in
set_option maxRecDepth 100000 in
theorem sp_J4_size {G : GG} {h : HP} {a n : Nat} {mc n9 : Int32} {nd : Nat → Nat} (hl : h a = some (bLL mc n9 nd n)) : Ct G 0 0 M_J4_size [.ref a] h (eQ (some (.int n9)) h) := by
  refine ct_intro my_J4_size (Nat.le_of_ble_eq_true rfl) ?_
  first | refine r_aload_n dJ4_size_0 rfl ?_ | refine r_aload_nq dJ4_size_0 rfl ?_ | refine r_aload_nN dJ4_size_0 rfl ?_
  refine r_getfield 11 1 dJ4_size_1 rfl (Nat.le_of_ble_eq_true rfl) (lkA q164) (Or.inl rfl) (by first | exact Or.inl (by assumption) | assumption | (refine Or.inl ?_; repeat' first | assumption | exact hu_s | refine hu_o (by assumption) ?_ | refine (hu_n (by first | assumption | exact Ne.symm (by assumption) | exact ne_o (by assumption) (by assumption) | exact Ne.symm (ne_o (by assumption) (by assumption)))).trans ?_)) (by rfl) ?_
  exact r_ireturn dJ4_size_4 rfl (by first | rfl | exact bi_nar) (by first | exact ⟨rfl, rfl⟩ | rfl)

set_option maxHeartbeats 4000000 in
set_option maxRecDepth 100000 in
theorem sp_J4_isElementIndex {G : GG} {h : HP} {a n : Nat} {mc n9 : Int32} {nd : Nat → Nat} {i : Int32} (hl : h a = some (bLL mc n9 nd n)) (hn9 : n9.toInt = (n : Int)) (h0 : 0 ≤ i.toInt) (h1 : i.toInt < (n : Int)) : Ct G 0 0 M_J4_isElementIndex [.ref a, .int i] h (eQ (some (.int 1)) h) := by
  refine ct_intro my_J4_isElementIndex (Nat.le_of_ble_eq_true rfl) ?_
  refine r_iload_n dJ4_isElementIndex_0 rfl ?_
  refine r_if_lt 16 dJ4_isElementIndex_1 rfl (fun c1 => absurd c1 (by intro hq; simp only [i32_eq, Int32.lt_iff_toInt_lt, Int32.le_iff_toInt_le, tI_add, tI_sub, tI_mul, tI_neg, Int32.reduceToInt] at hq; omega)) (fun c1 => ?_)
  refine r_iload_n dJ4_isElementIndex_4 rfl ?_
  first | refine r_aload_n dJ4_isElementIndex_5 rfl ?_ | refine r_aload_nq dJ4_isElementIndex_5 rfl ?_ | refine r_aload_nN dJ4_isElementIndex_5 rfl ?_
  refine r_getfield 11 1 dJ4_isElementIndex_6 rfl (Nat.le_of_ble_eq_true rfl) (lkA q164) (Or.inl rfl) (by first | exact Or.inl (by assumption) | assumption | (refine Or.inl ?_; repeat' first | assumption | exact hu_s | refine hu_o (by assumption) ?_ | refine (hu_n (by first | assumption | exact Ne.symm (by assumption) | exact ne_o (by assumption) (by assumption) | exact Ne.symm (ne_o (by assumption) (by assumption)))).trans ?_)) (by rfl) ?_
  refine r_icmp_ge 16 dJ4_isElementIndex_9 rfl (fun c9 => absurd c9 (by intro hq; simp only [i32_eq, Int32.lt_iff_toInt_lt, Int32.le_iff_toInt_le, tI_add, tI_sub, tI_mul, tI_neg, Int32.reduceToInt] at hq; omega)) (fun c9 => ?_)
  refine r_iconst (v := 1) dJ4_isElementIndex_12 rfl ?_
  refine r_goto 17 dJ4_isElementIndex_13 rfl ?_
  exact r_ireturn dJ4_isElementIndex_17 rfl (by first | rfl | exact bi_nar) (by first | exact ⟨rfl, rfl⟩ | rfl)

set_option maxHeartbeats 4000000 in
set_option maxRecDepth 100000 in
theorem sp_J4_checkElementIndex {G : GG} {h : HP} {a n : Nat} {mc n9 : Int32} {nd : Nat → Nat} {i : Int32} (hl : h a = some (bLL mc n9 nd n)) (hn9 : n9.toInt = (n : Int)) (h0 : 0 ≤ i.toInt) (h1 : i.toInt < (n : Int)) : Ct G 1 0 M_J4_checkElementIndex [.ref a, .int i] h (eQ none h) := by
  refine ct_intro my_J4_checkElementIndex (Nat.le_of_ble_eq_true rfl) ?_
  first | refine r_aload_n dJ4_checkElementIndex_0 rfl ?_ | refine r_aload_nq dJ4_checkElementIndex_0 rfl ?_ | refine r_aload_nN dJ4_checkElementIndex_0 rfl ?_
  refine r_iload_n dJ4_checkElementIndex_1 rfl ?_
  refine r_invV dJ4_checkElementIndex_2 (sp_J4_isElementIndex hl hn9 h0 h1) rfl mo_J4_isElementIndex (by first | exact Or.inl (by assumption) | assumption | (refine Or.inl ?_; repeat' first | assumption | exact hu_s | refine hu_o (by assumption) ?_ | refine (hu_n (by first | assumption | exact Ne.symm (by assumption) | exact ne_o (by assumption) (by assumption) | exact Ne.symm (ne_o (by assumption) (by assumption)))).trans ?_)) rfl (lkA q575) (lkA q577) (lkA qs7) rfl (lkA q70) mp_J4_isElementIndex (Nat.le_of_ble_eq_true rfl) (Nat.le_of_ble_eq_true rfl) (Nat.le_of_ble_eq_true rfl) (kr_e ?_) kx_e
  refine r_if_ne 21 dJ4_checkElementIndex_5 rfl (fun c5 => ?_) (fun c5 => absurd c5 (by decide))
  exact r_return dJ4_checkElementIndex_21 rfl (by first | exact ⟨rfl, rfl⟩ | rfl)

set_option maxHeartbeats 4000000 in
set_option maxRecDepth 100000 in
theorem sp_J4_isPositionIndex {G : GG} {h : HP} {a n : Nat} {mc n9 : Int32} {nd : Nat → Nat} {i : Int32} (hl : h a = some (bLL mc n9 nd n)) (hn9 : n9.toInt = (n : Int)) (h0 : 0 ≤ i.toInt) (h1 : i.toInt ≤ (n : Int)) : Ct G 0 0 M_J4_isPositionIndex [.ref a, .int i] h (eQ (some (.int 1)) h) := by
  refine ct_intro my_J4_isPositionIndex (Nat.le_of_ble_eq_true rfl) ?_
  refine r_iload_n dJ4_isPositionIndex_0 rfl ?_
  refine r_if_lt 16 dJ4_isPositionIndex_1 rfl (fun c1 => absurd c1 (by intro hq; simp only [i32_eq, Int32.lt_iff_toInt_lt, Int32.le_iff_toInt_le, tI_add, tI_sub, tI_mul, tI_neg, Int32.reduceToInt] at hq; omega)) (fun c1 => ?_)
  refine r_iload_n dJ4_isPositionIndex_4 rfl ?_
  first | refine r_aload_n dJ4_isPositionIndex_5 rfl ?_ | refine r_aload_nq dJ4_isPositionIndex_5 rfl ?_ | refine r_aload_nN dJ4_isPositionIndex_5 rfl ?_
  refine r_getfield 11 1 dJ4_isPositionIndex_6 rfl (Nat.le_of_ble_eq_true rfl) (lkA q164) (Or.inl rfl) (by first | exact Or.inl (by assumption) | assumption | (refine Or.inl ?_; repeat' first | assumption | exact hu_s | refine hu_o (by assumption) ?_ | refine (hu_n (by first | assumption | exact Ne.symm (by assumption) | exact ne_o (by assumption) (by assumption) | exact Ne.symm (ne_o (by assumption) (by assumption)))).trans ?_)) (by rfl) ?_
  refine r_icmp_gt 16 dJ4_isPositionIndex_9 rfl (fun c9 => absurd c9 (by intro hq; simp only [i32_eq, Int32.lt_iff_toInt_lt, Int32.le_iff_toInt_le, tI_add, tI_sub, tI_mul, tI_neg, Int32.reduceToInt] at hq; omega)) (fun c9 => ?_)
  refine r_iconst (v := 1) dJ4_isPositionIndex_12 rfl ?_
  refine r_goto 17 dJ4_isPositionIndex_13 rfl ?_
  exact r_ireturn dJ4_isPositionIndex_17 rfl (by first | rfl | exact bi_nar) (by first | exact ⟨rfl, rfl⟩ | rfl)

set_option maxHeartbeats 4000000 in
set_option maxRecDepth 100000 in
theorem sp_J4_checkPositionIndex {G : GG} {h : HP} {a n : Nat} {mc n9 : Int32} {nd : Nat → Nat} {i : Int32} (hl : h a = some (bLL mc n9 nd n)) (hn9 : n9.toInt = (n : Int)) (h0 : 0 ≤ i.toInt) (h1 : i.toInt ≤ (n : Int)) : Ct G 1 0 M_J4_checkPositionIndex [.ref a, .int i] h (eQ none h) := by
  refine ct_intro my_J4_checkPositionIndex (Nat.le_of_ble_eq_true rfl) ?_
  first | refine r_aload_n dJ4_checkPositionIndex_0 rfl ?_ | refine r_aload_nq dJ4_checkPositionIndex_0 rfl ?_ | refine r_aload_nN dJ4_checkPositionIndex_0 rfl ?_
  refine r_iload_n dJ4_checkPositionIndex_1 rfl ?_
  refine r_invV dJ4_checkPositionIndex_2 (sp_J4_isPositionIndex hl hn9 h0 h1) rfl mo_J4_isPositionIndex (by first | exact Or.inl (by assumption) | assumption | (refine Or.inl ?_; repeat' first | assumption | exact hu_s | refine hu_o (by assumption) ?_ | refine (hu_n (by first | assumption | exact Ne.symm (by assumption) | exact ne_o (by assumption) (by assumption) | exact Ne.symm (ne_o (by assumption) (by assumption)))).trans ?_)) rfl (lkA q945) (lkA q947) (lkA qs11) rfl (lkA q70) mp_J4_isPositionIndex (Nat.le_of_ble_eq_true rfl) (Nat.le_of_ble_eq_true rfl) (Nat.le_of_ble_eq_true rfl) (kr_e ?_) kx_e
  refine r_if_ne 21 dJ4_checkPositionIndex_5 rfl (fun c5 => ?_) (fun c5 => absurd c5 (by decide))
  exact r_return dJ4_checkPositionIndex_21 rfl (by first | exact ⟨rfl, rfl⟩ | rfl)

set_option maxHeartbeats 4000000 in
set_option maxRecDepth 100000 in
theorem sp_J4_node {G : GG} {h : HP} {a n : Nat} {mc n9 : Int32} {nd it : Nat → Nat} {i : Nat} {i9 : Int32} (hl : h a = some (bLL mc n9 nd n)) (hn9 : n9.toInt = (n : Int)) (hnd : ∀ i, i < n → h (nd i) = some (bNd nd it n i)) (hi : i9.toInt = (i : Int)) (hin : i < n) (hn : n < 1000) : Ct G 0 0 M_J4_node [.ref a, .int i9] h (eQ (some (.ref (nd i))) h) := by
  refine ct_intro my_J4_node (Nat.le_of_ble_eq_true rfl) ?_
  have loop : ∀ (k j : Nat) (j9 : Int32), j9.toInt = (j : Int) → j + k = i → V G 0 M_J4_node 17 [(3, .int j9), (2, .ref (nd j)), (0, .ref a), (1, .int i9)] [] h 0 (eQ (some (.ref (nd i))) h) := by
    intro k
    induction k with
    | zero =>
      intro j j9 hj hk
      have hij : j = i := by omega
      subst hij
      refine r_iload_n dJ4_node_17 rfl ?_
      refine r_iload_n dJ4_node_18 rfl ?_
      refine r_icmp_ge 33 dJ4_node_19 rfl (fun c19 => ?_) (fun c19 => absurd c19 (by intro hq; simp only [i32_eq, Int32.lt_iff_toInt_lt, Int32.le_iff_toInt_le, tI_add, tI_sub, tI_mul, tI_neg, Int32.reduceToInt] at hq; omega))
      first | refine r_aload_n dJ4_node_33 rfl ?_ | refine r_aload_nq dJ4_node_33 rfl ?_ | refine r_aload_nN dJ4_node_33 rfl ?_
      first | exact r_areturn dJ4_node_34 rfl rfl (by first | exact ⟨rfl, rfl⟩ | rfl) | exact r_areturnq dJ4_node_34 rfl rfl (by first | exact ⟨rfl, rfl⟩ | rfl) | exact r_areturnN dJ4_node_34 rfl rfl (by first | exact ⟨rfl, rfl⟩ | rfl)
    | succ k ih =>
      intro j j9 hj hk
      refine r_iload_n dJ4_node_17 rfl ?_
      refine r_iload_n dJ4_node_18 rfl ?_
      refine r_icmp_ge 33 dJ4_node_19 rfl (fun c19 => absurd c19 (by intro hq; simp only [i32_eq, Int32.lt_iff_toInt_lt, Int32.le_iff_toInt_le, tI_add, tI_sub, tI_mul, tI_neg, Int32.reduceToInt] at hq; omega)) (fun c19 => ?_)
      first | refine r_aload_n dJ4_node_22 rfl ?_ | refine r_aload_nq dJ4_node_22 rfl ?_ | refine r_aload_nN dJ4_node_22 rfl ?_
      refine r_getfield 18 1 dJ4_node_23 rfl (Nat.le_of_ble_eq_true rfl) (lkA q1031) (Or.inl rfl) (Or.inl (hnd j (by omega))) (show some (va_rf (inx nd n (j + 1))) = some (.ref (nd (j + 1))) by rw [inx_s (by omega)]; rfl) ?_
      first | refine r_astore_n dJ4_node_26 (Nat.le_of_ble_eq_true rfl) ?_ | refine r_astore_nq dJ4_node_26 (Nat.le_of_ble_eq_true rfl) ?_ | refine r_astore_nN dJ4_node_26 (Nat.le_of_ble_eq_true rfl) ?_
      refine r_inc 1 dJ4_node_27 rfl rfl (Nat.le_of_ble_eq_true rfl) ?_
      refine r_goto 17 dJ4_node_30 rfl ?_
      refine V_loc (L' := [(3, .int (j9 + 1)), (2, .ref (nd (j + 1))), (0, .ref a), (1, .int i9)]) ⟨rfl, rfl, rfl, rfl, trivial⟩ ?_
      exact ih (j + 1) _ (by simp only [tI_add, tI_sub, tI_mul, tI_neg, Int32.reduceToInt]; omega) (by omega)
  have pool : ∀ (k j : Nat) (j9 : Int32), j9.toInt = (j : Int) → i + k = j → j < n → V G 0 M_J4_node 47 [(3, .int j9), (2, .ref (nd j)), (0, .ref a), (1, .int i9)] [] h 0 (eQ (some (.ref (nd i))) h) := by
    intro k
    induction k with
    | zero =>
      intro j j9 hj hk hn
      have hij : j = i := by omega
      subst hij
      refine r_iload_n dJ4_node_47 rfl ?_
      refine r_iload_n dJ4_node_48 rfl ?_
      refine r_icmp_le 63 dJ4_node_49 rfl (fun c49 => ?_) (fun c49 => absurd c49 (by intro hq; simp only [i32_eq, Int32.lt_iff_toInt_lt, Int32.le_iff_toInt_le, tI_add, tI_sub, tI_mul, tI_neg, Int32.reduceToInt] at hq; omega))
      first | refine r_aload_n dJ4_node_63 rfl ?_ | refine r_aload_nq dJ4_node_63 rfl ?_ | refine r_aload_nN dJ4_node_63 rfl ?_
      first | exact r_areturn dJ4_node_64 rfl rfl (by first | exact ⟨rfl, rfl⟩ | rfl) | exact r_areturnq dJ4_node_64 rfl rfl (by first | exact ⟨rfl, rfl⟩ | rfl) | exact r_areturnN dJ4_node_64 rfl rfl (by first | exact ⟨rfl, rfl⟩ | rfl)
    | succ k ih =>
      intro j j9 hj hk hn
      obtain ⟨j, rfl⟩ : ∃ m, j = m + 1 := ⟨j - 1, by omega⟩
      refine r_iload_n dJ4_node_47 rfl ?_
      refine r_iload_n dJ4_node_48 rfl ?_
      refine r_icmp_le 63 dJ4_node_49 rfl (fun c49 => absurd c49 (by intro hq; simp only [i32_eq, Int32.lt_iff_toInt_lt, Int32.le_iff_toInt_le, tI_add, tI_sub, tI_mul, tI_neg, Int32.reduceToInt] at hq; omega)) (fun c49 => ?_)
      first | refine r_aload_n dJ4_node_52 rfl ?_ | refine r_aload_nq dJ4_node_52 rfl ?_ | refine r_aload_nN dJ4_node_52 rfl ?_
      refine r_getfield 18 2 dJ4_node_53 rfl (Nat.le_of_ble_eq_true rfl) (lkA q1033) (Or.inl rfl) (Or.inl (hnd (j + 1) hn)) (show some (va_rf (ipv nd (j + 1))) = some (.ref (nd j)) by rw [ipv_s]; rfl) ?_
      first | refine r_astore_n dJ4_node_56 (Nat.le_of_ble_eq_true rfl) ?_ | refine r_astore_nq dJ4_node_56 (Nat.le_of_ble_eq_true rfl) ?_ | refine r_astore_nN dJ4_node_56 (Nat.le_of_ble_eq_true rfl) ?_
      refine r_inc (-1) dJ4_node_57 rfl rfl (Nat.le_of_ble_eq_true rfl) ?_
      refine r_goto 47 dJ4_node_60 rfl ?_
      refine V_loc (L' := [(3, .int (j9 + -1)), (2, .ref (nd j)), (0, .ref a), (1, .int i9)]) ⟨rfl, rfl, rfl, rfl, trivial⟩ ?_
      exact ih j _ (by simp only [tI_add, tI_sub, tI_mul, tI_neg, Int32.reduceToInt]; omega) (by omega) (by omega)
  obtain ⟨m, hm⟩ : ∃ m, n = m + 1 := ⟨n - 1, by omega⟩
  refine r_iload_n dJ4_node_0 rfl ?_
  first | refine r_aload_n dJ4_node_1 rfl ?_ | refine r_aload_nq dJ4_node_1 rfl ?_ | refine r_aload_nN dJ4_node_1 rfl ?_
  refine r_getfield 11 1 dJ4_node_2 rfl (Nat.le_of_ble_eq_true rfl) (lkA q164) (Or.inl rfl) (by first | exact Or.inl (by assumption) | assumption | (refine Or.inl ?_; repeat' first | assumption | exact hu_s | refine hu_o (by assumption) ?_ | refine (hu_n (by first | assumption | exact Ne.symm (by assumption) | exact ne_o (by assumption) (by assumption) | exact Ne.symm (ne_o (by assumption) (by assumption)))).trans ?_)) (by rfl) ?_
  refine r_iconst (v := 1) dJ4_node_5 rfl ?_
  refine r_ishr dJ4_node_6 ?_
  refine r_icmp_ge 35 dJ4_node_7 rfl (fun c7 => ?_) (fun c7 => ?_)
  · first | refine r_aload_n dJ4_node_35 rfl ?_ | refine r_aload_nq dJ4_node_35 rfl ?_ | refine r_aload_nN dJ4_node_35 rfl ?_
    refine r_getfield 11 3 dJ4_node_36 rfl (Nat.le_of_ble_eq_true rfl) (lkA q167) (Or.inl rfl) (by first | exact Or.inl (by assumption) | assumption | (refine Or.inl ?_; repeat' first | assumption | exact hu_s | refine hu_o (by assumption) ?_ | refine (hu_n (by first | assumption | exact Ne.symm (by assumption) | exact ne_o (by assumption) (by assumption) | exact Ne.symm (ne_o (by assumption) (by assumption)))).trans ?_)) (show some (va_rf (ipv nd n)) = some (.ref (nd m)) by rw [hm, ipv_s]; rfl) ?_
    first | refine r_astore_n dJ4_node_39 (Nat.le_of_ble_eq_true rfl) ?_ | refine r_astore_nq dJ4_node_39 (Nat.le_of_ble_eq_true rfl) ?_ | refine r_astore_nN dJ4_node_39 (Nat.le_of_ble_eq_true rfl) ?_
    first | refine r_aload_n dJ4_node_40 rfl ?_ | refine r_aload_nq dJ4_node_40 rfl ?_ | refine r_aload_nN dJ4_node_40 rfl ?_
    refine r_getfield 11 1 dJ4_node_41 rfl (Nat.le_of_ble_eq_true rfl) (lkA q164) (Or.inl rfl) (by first | exact Or.inl (by assumption) | assumption | (refine Or.inl ?_; repeat' first | assumption | exact hu_s | refine hu_o (by assumption) ?_ | refine (hu_n (by first | assumption | exact Ne.symm (by assumption) | exact ne_o (by assumption) (by assumption) | exact Ne.symm (ne_o (by assumption) (by assumption)))).trans ?_)) (by rfl) ?_
    refine r_iconst (v := 1) dJ4_node_44 rfl ?_
    refine r_isub dJ4_node_45 ?_
    refine r_istore_n dJ4_node_46 (Nat.le_of_ble_eq_true rfl) ?_
    refine V_loc (L' := [(3, .int (n9 - 1)), (2, .ref (nd m)), (0, .ref a), (1, .int i9)]) ⟨rfl, rfl, rfl, rfl, trivial⟩ ?_
    exact pool (m - i) m _ (by simp only [tI_add, tI_sub, tI_mul, tI_neg, Int32.reduceToInt]; omega) (by omega) (by omega)
  · first | refine r_aload_n dJ4_node_10 rfl ?_ | refine r_aload_nq dJ4_node_10 rfl ?_ | refine r_aload_nN dJ4_node_10 rfl ?_
    refine r_getfield 11 2 dJ4_node_11 rfl (Nat.le_of_ble_eq_true rfl) (lkA q166) (Or.inl rfl) (by first | exact Or.inl (by assumption) | assumption | (refine Or.inl ?_; repeat' first | assumption | exact hu_s | refine hu_o (by assumption) ?_ | refine (hu_n (by first | assumption | exact Ne.symm (by assumption) | exact ne_o (by assumption) (by assumption) | exact Ne.symm (ne_o (by assumption) (by assumption)))).trans ?_)) (show some (va_rf (inx nd n 0)) = some (.ref (nd 0)) by rw [inx_s (by omega)]; rfl) ?_
    first | refine r_astore_n dJ4_node_14 (Nat.le_of_ble_eq_true rfl) ?_ | refine r_astore_nq dJ4_node_14 (Nat.le_of_ble_eq_true rfl) ?_ | refine r_astore_nN dJ4_node_14 (Nat.le_of_ble_eq_true rfl) ?_
    refine r_iconst (v := 0) dJ4_node_15 rfl ?_
    refine r_istore_n dJ4_node_16 (Nat.le_of_ble_eq_true rfl) ?_
    refine V_loc (L' := [(3, .int 0), (2, .ref (nd 0)), (0, .ref a), (1, .int i9)]) ⟨rfl, rfl, rfl, rfl, trivial⟩ ?_
    exact loop i 0 0 rfl (by omega)

set_option maxHeartbeats 4000000 in
set_option maxRecDepth 100000 in
theorem sp_J4_get {G : GG} {h : HP} {a n : Nat} {mc n9 : Int32} {nd it : Nat → Nat} {i : Nat} {i9 : Int32} (hl : h a = some (bLL mc n9 nd n)) (hn9 : n9.toInt = (n : Int)) (hnd : ∀ i, i < n → h (nd i) = some (bNd nd it n i)) (hi : i9.toInt = (i : Int)) (hin : i < n) (hn : n < 1000) : Ct G 2 0 M_J4_get [.ref a, .int i9] h (eQ (some (.ref (it i))) h) := by
  refine ct_intro my_J4_get (Nat.le_of_ble_eq_true rfl) ?_
  first | refine r_aload_n dJ4_get_0 rfl ?_ | refine r_aload_nq dJ4_get_0 rfl ?_ | refine r_aload_nN dJ4_get_0 rfl ?_
  refine r_iload_n dJ4_get_1 rfl ?_
  refine r_invV dJ4_get_2 (sp_J4_checkElementIndex hl hn9 (by omega) (by omega)) rfl mo_J4_checkElementIndex (by first | exact Or.inl (by assumption) | assumption | (refine Or.inl ?_; repeat' first | assumption | exact hu_s | refine hu_o (by assumption) ?_ | refine (hu_n (by first | assumption | exact Ne.symm (by assumption) | exact ne_o (by assumption) (by assumption) | exact Ne.symm (ne_o (by assumption) (by assumption)))).trans ?_)) rfl (lkA q571) (lkA q573) (lkA qs6) rfl (lkA q70) mp_J4_checkElementIndex (Nat.le_of_ble_eq_true rfl) (Nat.le_of_ble_eq_true rfl) (Nat.le_of_ble_eq_true rfl) (kr_e ?_) kx_e
  first | refine r_aload_n dJ4_get_5 rfl ?_ | refine r_aload_nq dJ4_get_5 rfl ?_ | refine r_aload_nN dJ4_get_5 rfl ?_
  refine r_iload_n dJ4_get_6 rfl ?_
  refine r_invV dJ4_get_7 (sp_J4_node hl hn9 hnd hi hin hn) rfl mo_J4_node (by first | exact Or.inl (by assumption) | assumption | (refine Or.inl ?_; repeat' first | assumption | exact hu_s | refine hu_o (by assumption) ?_ | refine (hu_n (by first | assumption | exact Ne.symm (by assumption) | exact ne_o (by assumption) (by assumption) | exact Ne.symm (ne_o (by assumption) (by assumption)))).trans ?_)) rfl (lkA q579) (lkA q580) (lkA q581) rfl (lkA q70) mp_J4_node (Nat.le_of_ble_eq_true rfl) (Nat.le_of_ble_eq_true rfl) (Nat.le_of_ble_eq_true rfl) (kr_e ?_) kx_e
  refine r_getfield 18 0 dJ4_get_10 rfl (Nat.le_of_ble_eq_true rfl) (lkA q1028) (Or.inl rfl) (Or.inl (hnd i hin)) (by rfl) ?_
  first | exact r_areturn dJ4_get_13 rfl rfl (by first | exact ⟨rfl, rfl⟩ | rfl) | exact r_areturnq dJ4_get_13 rfl rfl (by first | exact ⟨rfl, rfl⟩ | rfl) | exact r_areturnN dJ4_get_13 rfl rfl (by first | exact ⟨rfl, rfl⟩ | rfl)

set_option maxHeartbeats 4000000 in
set_option maxRecDepth 100000 in
theorem sp_J24_init {G : GG} {h : HP} {a n : Nat} {mc n9 : Int32} {nd it : Nat → Nat} {b : Nat} {x0 x1 x2 x3 x4 : Value} (hx0 : x0 = .null) (hb : h b = some (bO 17 [x0, x1, x2, x3, x4])) (hl : h a = some (bLL mc n9 nd n)) (hn9 : n9.toInt = (n : Int)) (hnd : ∀ i, i < n → h (nd i) = some (bNd nd it n i)) (hn : n < 1000) : Ct G 2 0 M_J24_init [.ref b, .ref a, .int 0] h (eQ none (hu h b (bO 17 [.null, va_rf (inx nd n 0), .int 0, .int mc, .ref a]))) := by
  refine ct_intro my_J24_init (Nat.le_of_ble_eq_true rfl) ?_
  have hz : ¬ (0 : Int32) = n9 → 0 < n := fun e => by
    rcases Nat.eq_zero_or_pos n with h0 | h0
    · exact absurd (i32_eq.mpr (by rw [hn9, h0]; rfl)) e
    · exact h0
  have hz0 : (0 : Int32) = n9 → n ≤ 0 := fun e => by
    rw [← e] at hn9
    have h0 : (0 : Int32).toInt = 0 := rfl
    omega
  subst hx0
  have hla : ∀ y, hu h b y a = some (bLL mc n9 nd n) := fun y => (hu_n (ne_O hb hl (by decide))).trans hl
  have hnd2 : ∀ y i, i < n → hu h b y (nd i) = some (bNd nd it n i) := fun y i hi => (hu_n (ne_O hb (hnd i hi) (by decide))).trans (hnd i hi)
  first | refine r_aload_n dJ24_init_0 rfl ?_ | refine r_aload_nq dJ24_init_0 rfl ?_ | refine r_aload_nN dJ24_init_0 rfl ?_
  first | refine r_aload_n dJ24_init_1 rfl ?_ | refine r_aload_nq dJ24_init_1 rfl ?_ | refine r_aload_nN dJ24_init_1 rfl ?_
  refine r_putF 17 4 dJ24_init_2 rfl (Nat.le_of_ble_eq_true rfl) (lkA q960) rfl rfl rfl (by repeat' first | assumption | exact hu_s | refine hu_o (by assumption) ?_ | refine (hu_n (by first | assumption | exact Ne.symm (by assumption) | exact ne_o (by assumption) (by assumption) | exact Ne.symm (ne_o (by assumption) (by assumption)))).trans ?_) (by dsimp only [List.set]) (Nat.le_of_ble_eq_true rfl) rfl rfl (by first | exact hu_hu | exact rfl) ?_
  first | refine r_aload_n dJ24_init_5 rfl ?_ | refine r_aload_nq dJ24_init_5 rfl ?_ | refine r_aload_nN dJ24_init_5 rfl ?_
  refine r_objinit (w1 := .tt) dJ24_init_6 (lkA q954) (lkA q112) (lkA q113) (Nat.le_of_ble_eq_true rfl) (Nat.le_of_ble_eq_true rfl) ?_
  first | refine r_aload_n dJ24_init_9 rfl ?_ | refine r_aload_nq dJ24_init_9 rfl ?_ | refine r_aload_nN dJ24_init_9 rfl ?_
  first | refine r_aload_n dJ24_init_10 rfl ?_ | refine r_aload_nq dJ24_init_10 rfl ?_ | refine r_aload_nN dJ24_init_10 rfl ?_
  refine r_getfield 17 4 dJ24_init_11 rfl (Nat.le_of_ble_eq_true rfl) (lkA q960) (Or.inl rfl) (by first | exact Or.inl (by assumption) | assumption | (refine Or.inl ?_; repeat' first | assumption | exact hu_s | refine hu_o (by assumption) ?_ | refine (hu_n (by first | assumption | exact Ne.symm (by assumption) | exact ne_o (by assumption) (by assumption) | exact Ne.symm (ne_o (by assumption) (by assumption)))).trans ?_)) (by rfl) ?_
  refine r_getfield 11 0 dJ24_init_14 rfl (Nat.le_of_ble_eq_true rfl) (lkA q141) (Or.inr (lkA q142)) (Or.inl (hla _)) (by rfl) ?_
  refine r_put 17 3 dJ24_init_17 rfl (Nat.le_of_ble_eq_true rfl) (lkA q959) (Or.inl rfl) rfl (by repeat' first | assumption | exact hu_s | refine hu_o (by assumption) ?_ | refine (hu_n (by first | assumption | exact Ne.symm (by assumption) | exact ne_o (by assumption) (by assumption) | exact Ne.symm (ne_o (by assumption) (by assumption)))).trans ?_) (by dsimp only [List.set]) (Nat.le_of_ble_eq_true rfl) rfl rfl (by first | exact hu_hu | exact rfl) ?_
  first | refine r_aload_n dJ24_init_20 rfl ?_ | refine r_aload_nq dJ24_init_20 rfl ?_ | refine r_aload_nN dJ24_init_20 rfl ?_
  refine r_iload_n dJ24_init_21 rfl ?_
  first | refine r_aload_n dJ24_init_22 rfl ?_ | refine r_aload_nq dJ24_init_22 rfl ?_ | refine r_aload_nN dJ24_init_22 rfl ?_
  refine r_getfield 11 1 dJ24_init_23 rfl (Nat.le_of_ble_eq_true rfl) (lkA q165) (Or.inl rfl) (Or.inl (hla _)) (by rfl) ?_
  refine r_icmp_ne 33 dJ24_init_26 rfl (fun c26 => ?_) (fun c26 => ?_)
  · first | refine r_aload_n dJ24_init_33 rfl ?_ | refine r_aload_nq dJ24_init_33 rfl ?_ | refine r_aload_nN dJ24_init_33 rfl ?_
    refine r_iload_n dJ24_init_34 rfl ?_
    refine r_invV dJ24_init_35 (sp_J4_node (i := 0) (hla _) hn9 (hnd2 _) rfl (hz c26) hn) rfl mo_J4_node (Or.inl (hla _)) rfl (lkA q955) (lkA q580) (lkA q581) rfl (lkA q70) mp_J4_node (Nat.le_of_ble_eq_true rfl) (Nat.le_of_ble_eq_true rfl) (Nat.le_of_ble_eq_true rfl) (kr_e ?_) kx_e
    refine r_put 17 1 dJ24_init_38 rfl (Nat.le_of_ble_eq_true rfl) (lkA q957) (Or.inl rfl) rfl (by repeat' first | assumption | exact hu_s | refine hu_o (by assumption) ?_ | refine (hu_n (by first | assumption | exact Ne.symm (by assumption) | exact ne_o (by assumption) (by assumption) | exact Ne.symm (ne_o (by assumption) (by assumption)))).trans ?_) (by dsimp only [List.set]) (Nat.le_of_ble_eq_true rfl) rfl rfl (by first | exact hu_hu | exact rfl) ?_
    first | refine r_aload_n dJ24_init_41 rfl ?_ | refine r_aload_nq dJ24_init_41 rfl ?_ | refine r_aload_nN dJ24_init_41 rfl ?_
    refine r_iload_n dJ24_init_42 rfl ?_
    refine r_put 17 2 dJ24_init_43 rfl (Nat.le_of_ble_eq_true rfl) (lkA q958) (Or.inl rfl) rfl (by repeat' first | assumption | exact hu_s | refine hu_o (by assumption) ?_ | refine (hu_n (by first | assumption | exact Ne.symm (by assumption) | exact ne_o (by assumption) (by assumption) | exact Ne.symm (ne_o (by assumption) (by assumption)))).trans ?_) (by dsimp only [List.set]) (Nat.le_of_ble_eq_true rfl) rfl rfl (by first | exact hu_hu | exact rfl) ?_
    exact r_return dJ24_init_46 rfl ⟨rfl, by rw [inx_s (hz c26)]; rfl⟩
  · refine r_null dJ24_init_29 ?_
    refine r_goto 38 dJ24_init_30 rfl ?_
    refine r_put 17 1 dJ24_init_38 rfl (Nat.le_of_ble_eq_true rfl) (lkA q957) (Or.inl rfl) rfl (by repeat' first | assumption | exact hu_s | refine hu_o (by assumption) ?_ | refine (hu_n (by first | assumption | exact Ne.symm (by assumption) | exact ne_o (by assumption) (by assumption) | exact Ne.symm (ne_o (by assumption) (by assumption)))).trans ?_) (by dsimp only [List.set]) (Nat.le_of_ble_eq_true rfl) rfl rfl (by first | exact hu_hu | exact rfl) ?_
    first | refine r_aload_n dJ24_init_41 rfl ?_ | refine r_aload_nq dJ24_init_41 rfl ?_ | refine r_aload_nN dJ24_init_41 rfl ?_
    refine r_iload_n dJ24_init_42 rfl ?_
    refine r_put 17 2 dJ24_init_43 rfl (Nat.le_of_ble_eq_true rfl) (lkA q958) (Or.inl rfl) rfl (by repeat' first | assumption | exact hu_s | refine hu_o (by assumption) ?_ | refine (hu_n (by first | assumption | exact Ne.symm (by assumption) | exact ne_o (by assumption) (by assumption) | exact Ne.symm (ne_o (by assumption) (by assumption)))).trans ?_) (by dsimp only [List.set]) (Nat.le_of_ble_eq_true rfl) rfl rfl (by first | exact hu_hu | exact rfl) ?_
    exact r_return dJ24_init_46 rfl ⟨rfl, by rw [inx_n (hz0 c26)]; rfl⟩

set_option maxHeartbeats 4000000 in
set_option maxRecDepth 100000 in
theorem sp_J4_listIterator {G : GG} {h : HP} {a n : Nat} {mc n9 : Int32} {nd it : Nat → Nat} (hl : h a = some (bLL mc n9 nd n)) (hn9 : n9.toInt = (n : Int)) (hnd : ∀ i, i < n → h (nd i) = some (bNd nd it n i)) (hn : n < 1000) : Ct G 3 6 M_J4_listIterator [.ref a, .int 0] h (rQ (fun v h' => ∃ q, v = some (.ref q) ∧ h q = none ∧ h' = hu h q (bO 17 [.null, va_rf (inx nd n 0), .int 0, .int mc, .ref a]))) := by
  refine ct_intro my_J4_listIterator (Nat.le_of_ble_eq_true rfl) ?_
  first | refine r_aload_n dJ4_listIterator_0 rfl ?_ | refine r_aload_nq dJ4_listIterator_0 rfl ?_ | refine r_aload_nN dJ4_listIterator_0 rfl ?_
  refine r_iload_n dJ4_listIterator_1 rfl ?_
  refine r_invV dJ4_listIterator_2 (sp_J4_checkPositionIndex hl hn9 (by decide) (by have h0 : (0 : Int32).toInt = 0 := rfl; omega)) rfl mo_J4_checkPositionIndex (by first | exact Or.inl (by assumption) | assumption | (refine Or.inl ?_; repeat' first | assumption | exact hu_s | refine hu_o (by assumption) ?_ | refine (hu_n (by first | assumption | exact Ne.symm (by assumption) | exact ne_o (by assumption) (by assumption) | exact Ne.symm (ne_o (by assumption) (by assumption)))).trans ?_)) rfl (lkA q941) (lkA q943) (lkA qs10) rfl (lkA q70) mp_J4_checkPositionIndex (Nat.le_of_ble_eq_true rfl) (Nat.le_of_ble_eq_true rfl) (Nat.le_of_ble_eq_true rfl) (kr_e ?_) kx_e
  refine r_new 17 [.null, .null, .int 0, .int 0, .null] dJ4_listIterator_5 rfl (lkA q949) (lkA q950) (lkA q95) (fun j hj => match j, hj with | 0, _ => rfl | 1, _ => rfl | 2, _ => rfl | 3, _ => rfl | 4, _ => rfl | k + 5, hk => absurd hk (Nat.not_lt.mpr (Nat.le_add_left 5 k))) (Nat.le_of_ble_eq_true rfl) (fun q5 hq5 => ?_)
  refine r_dup dJ4_listIterator_8 rfl ?_
  first | refine r_aload_n dJ4_listIterator_9 rfl ?_ | refine r_aload_nq dJ4_listIterator_9 rfl ?_ | refine r_aload_nN dJ4_listIterator_9 rfl ?_
  refine r_iload_n dJ4_listIterator_10 rfl ?_
  refine r_invI dJ4_listIterator_11 (sp_J24_init rfl hu_s (hu_o hq5 hl) hn9 (fun i hi => hu_o hq5 (hnd i hi)) hn) rfl mo_J24_init (lkA q951) (lkA q952) rfl rfl rfl (lkA q95) mp_J24_init (Nat.le_of_ble_eq_true rfl) (Nat.le_of_ble_eq_true rfl) (Nat.le_of_ble_eq_true rfl) (kr_e ?_) kx_e
  try simp only [hu_hu]
  first | exact r_areturn dJ4_listIterator_14 rfl rfl ⟨q5, rfl, hq5, rfl⟩ | exact r_areturnq dJ4_listIterator_14 rfl rfl ⟨q5, rfl, hq5, rfl⟩ | exact r_areturnN dJ4_listIterator_14 rfl rfl ⟨q5, rfl, hq5, rfl⟩

set_option maxHeartbeats 4000000 in
set_option maxRecDepth 100000 in
theorem sp_J1_listIterator {G : GG} {h : HP} {a n : Nat} {mc n9 : Int32} {nd it : Nat → Nat} (hl : h a = some (bLL mc n9 nd n)) (hn9 : n9.toInt = (n : Int)) (hnd : ∀ i, i < n → h (nd i) = some (bNd nd it n i)) (hn : n < 1000) : Ct G 4 6 M_J1_listIterator [.ref a] h (rQ (fun v h' => ∃ q, v = some (.ref q) ∧ h q = none ∧ h' = hu h q (bO 17 [.null, va_rf (inx nd n 0), .int 0, .int mc, .ref a]))) := by
  refine ct_intro my_J1_listIterator (Nat.le_of_ble_eq_true rfl) ?_
  first | refine r_aload_n dJ1_listIterator_0 rfl ?_ | refine r_aload_nq dJ1_listIterator_0 rfl ?_ | refine r_aload_nN dJ1_listIterator_0 rfl ?_
  refine r_iconst (v := 0) dJ1_listIterator_1 rfl ?_
  refine r_invU (owner := "java/util/AbstractList") dJ1_listIterator_2 (sp_J4_listIterator hl hn9 hnd hn) rfl mo_J4_listIterator (Or.inl hl) rfl (lkA q914) (lkA q916) (Or.inr (lkT q972 rfl)) ⟨by decide +kernel, by decide +kernel⟩ (lkA q938) (lkA q939) rfl (by decide +kernel) (lkA q70) mp_J4_listIterator (Nat.le_of_ble_eq_true rfl) (Nat.le_of_ble_eq_true rfl) (Nat.le_of_ble_eq_true rfl) (kr_r (fun v9 h9 p9 => ?_)) kx_r
  obtain ⟨q, rfl, hq, rfl⟩ := p9
  first | exact r_areturn dJ1_listIterator_5 rfl rfl ⟨q, rfl, hq, rfl⟩ | exact r_areturnq dJ1_listIterator_5 rfl rfl ⟨q, rfl, hq, rfl⟩ | exact r_areturnN dJ1_listIterator_5 rfl rfl ⟨q, rfl, hq, rfl⟩

set_option maxHeartbeats 4000000 in
set_option maxRecDepth 100000 in
theorem sp_J3_iterator {G : GG} {h : HP} {a n : Nat} {mc n9 : Int32} {nd it : Nat → Nat} (hl : h a = some (bLL mc n9 nd n)) (hn9 : n9.toInt = (n : Int)) (hnd : ∀ i, i < n → h (nd i) = some (bNd nd it n i)) (hn : n < 1000) : Ct G 5 6 M_J3_iterator [.ref a] h (rQ (fun v h' => ∃ q, v = some (.ref q) ∧ h q = none ∧ h' = hu h q (bO 17 [.null, va_rf (inx nd n 0), .int 0, .int mc, .ref a]))) := by
  refine ct_intro my_J3_iterator (Nat.le_of_ble_eq_true rfl) ?_
  first | refine r_aload_n dJ3_iterator_0 rfl ?_ | refine r_aload_nq dJ3_iterator_0 rfl ?_ | refine r_aload_nN dJ3_iterator_0 rfl ?_
  refine r_invU (owner := "java/util/AbstractList") dJ3_iterator_1 (sp_J1_listIterator hl hn9 hnd hn) rfl mo_J1_listIterator (Or.inl hl) rfl (lkA q908) (lkA q909) (Or.inl ⟨(lkA q912), _, _, _, (lkA q913)⟩) ⟨by decide +kernel, by decide +kernel⟩ (lkA q911) (lkA q912) rfl (by decide +kernel) (lkA q67) mp_J1_listIterator (Nat.le_of_ble_eq_true rfl) (Nat.le_of_ble_eq_true rfl) (Nat.le_of_ble_eq_true rfl) (kr_r (fun v9 h9 p9 => ?_)) kx_r
  obtain ⟨q, rfl, hq, rfl⟩ := p9
  first | exact r_areturn dJ3_iterator_4 rfl rfl ⟨q, rfl, hq, rfl⟩ | exact r_areturnq dJ3_iterator_4 rfl rfl ⟨q, rfl, hq, rfl⟩ | exact r_areturnN dJ3_iterator_4 rfl rfl ⟨q, rfl, hq, rfl⟩

set_option maxHeartbeats 4000000 in
set_option maxRecDepth 100000 in
theorem sp_J24_hasNext {G : GG} {h : HP} {a n : Nat} {mc n9 : Int32} {nd : Nat → Nat} {b j : Nat} {j9 : Int32} {x0 : Value} (hb : h b = some (bO 17 [x0, va_rf (inx nd n j), .int j9, .int mc, .ref a])) (hj : j9.toInt = (j : Int)) (hl : h a = some (bLL mc n9 nd n)) (hn9 : n9.toInt = (n : Int)) : Ct G 0 0 M_J24_hasNext [.ref b] h (eQ (some (.int (if j < n then 1 else 0))) h) := by
  refine ct_intro my_J24_hasNext (Nat.le_of_ble_eq_true rfl) ?_
  first | refine r_aload_n dJ24_hasNext_0 rfl ?_ | refine r_aload_nq dJ24_hasNext_0 rfl ?_ | refine r_aload_nN dJ24_hasNext_0 rfl ?_
  refine r_getfield 17 2 dJ24_hasNext_1 rfl (Nat.le_of_ble_eq_true rfl) (lkA q958) (Or.inl rfl) (by first | exact Or.inl (by assumption) | assumption | (refine Or.inl ?_; repeat' first | assumption | exact hu_s | refine hu_o (by assumption) ?_ | refine (hu_n (by first | assumption | exact Ne.symm (by assumption) | exact ne_o (by assumption) (by assumption) | exact Ne.symm (ne_o (by assumption) (by assumption)))).trans ?_)) (by rfl) ?_
  first | refine r_aload_n dJ24_hasNext_4 rfl ?_ | refine r_aload_nq dJ24_hasNext_4 rfl ?_ | refine r_aload_nN dJ24_hasNext_4 rfl ?_
  refine r_getfield 17 4 dJ24_hasNext_5 rfl (Nat.le_of_ble_eq_true rfl) (lkA q960) (Or.inl rfl) (by first | exact Or.inl (by assumption) | assumption | (refine Or.inl ?_; repeat' first | assumption | exact hu_s | refine hu_o (by assumption) ?_ | refine (hu_n (by first | assumption | exact Ne.symm (by assumption) | exact ne_o (by assumption) (by assumption) | exact Ne.symm (ne_o (by assumption) (by assumption)))).trans ?_)) (by rfl) ?_
  refine r_getfield 11 1 dJ24_hasNext_8 rfl (Nat.le_of_ble_eq_true rfl) (lkA q165) (Or.inl rfl) (by first | exact Or.inl (by assumption) | assumption | (refine Or.inl ?_; repeat' first | assumption | exact hu_s | refine hu_o (by assumption) ?_ | refine (hu_n (by first | assumption | exact Ne.symm (by assumption) | exact ne_o (by assumption) (by assumption) | exact Ne.symm (ne_o (by assumption) (by assumption)))).trans ?_)) (by rfl) ?_
  refine r_icmp_ge 18 dJ24_hasNext_11 rfl (fun c11 => ?_) (fun c11 => ?_)
  · refine r_iconst (v := 0) dJ24_hasNext_18 rfl ?_
    exact r_ireturn dJ24_hasNext_19 rfl (by first | rfl | exact bi_nar) (by rw [if_neg (by rw [Int32.le_iff_toInt_le] at c11; omega)]; exact ⟨rfl, rfl⟩)
  · refine r_iconst (v := 1) dJ24_hasNext_14 rfl ?_
    refine r_goto 19 dJ24_hasNext_15 rfl ?_
    exact r_ireturn dJ24_hasNext_19 rfl (by first | rfl | exact bi_nar) (by rw [if_pos (by rw [Int32.le_iff_toInt_le] at c11; omega)]; exact ⟨rfl, rfl⟩)

set_option maxHeartbeats 4000000 in
set_option maxRecDepth 100000 in
theorem sp_J24_checkForComodification {G : GG} {h : HP} {a n : Nat} {mc n9 : Int32} {nd : Nat → Nat} {b j : Nat} {j9 : Int32} {x0 : Value} (hb : h b = some (bO 17 [x0, va_rf (inx nd n j), .int j9, .int mc, .ref a])) (hj : j9.toInt = (j : Int)) (hl : h a = some (bLL mc n9 nd n)) : Ct G 0 0 M_J24_checkForComodification [.ref b] h (eQ none h) := by
  refine ct_intro my_J24_checkForComodification (Nat.le_of_ble_eq_true rfl) ?_
  first | refine r_aload_n dJ24_checkForComodification_0 rfl ?_ | refine r_aload_nq dJ24_checkForComodification_0 rfl ?_ | refine r_aload_nN dJ24_checkForComodification_0 rfl ?_
  refine r_getfield 17 4 dJ24_checkForComodification_1 rfl (Nat.le_of_ble_eq_true rfl) (lkA q960) (Or.inl rfl) (by first | exact Or.inl (by assumption) | assumption | (refine Or.inl ?_; repeat' first | assumption | exact hu_s | refine hu_o (by assumption) ?_ | refine (hu_n (by first | assumption | exact Ne.symm (by assumption) | exact ne_o (by assumption) (by assumption) | exact Ne.symm (ne_o (by assumption) (by assumption)))).trans ?_)) (by rfl) ?_
  refine r_getfield 11 0 dJ24_checkForComodification_4 rfl (Nat.le_of_ble_eq_true rfl) (lkA q141) (Or.inr (lkA q142)) (by first | exact Or.inl (by assumption) | assumption | (refine Or.inl ?_; repeat' first | assumption | exact hu_s | refine hu_o (by assumption) ?_ | refine (hu_n (by first | assumption | exact Ne.symm (by assumption) | exact ne_o (by assumption) (by assumption) | exact Ne.symm (ne_o (by assumption) (by assumption)))).trans ?_)) (by rfl) ?_
  first | refine r_aload_n dJ24_checkForComodification_7 rfl ?_ | refine r_aload_nq dJ24_checkForComodification_7 rfl ?_ | refine r_aload_nN dJ24_checkForComodification_7 rfl ?_
  refine r_getfield 17 3 dJ24_checkForComodification_8 rfl (Nat.le_of_ble_eq_true rfl) (lkA q959) (Or.inl rfl) (by first | exact Or.inl (by assumption) | assumption | (refine Or.inl ?_; repeat' first | assumption | exact hu_s | refine hu_o (by assumption) ?_ | refine (hu_n (by first | assumption | exact Ne.symm (by assumption) | exact ne_o (by assumption) (by assumption) | exact Ne.symm (ne_o (by assumption) (by assumption)))).trans ?_)) (by rfl) ?_
  refine r_icmp_eq 22 dJ24_checkForComodification_11 rfl (fun c11 => ?_) (fun c11 => absurd c11 (by intro hq; exact hq rfl))
  exact r_return dJ24_checkForComodification_22 rfl (by first | exact ⟨rfl, rfl⟩ | rfl)

set_option maxHeartbeats 4000000 in
set_option maxRecDepth 100000 in
theorem sp_J24_next {G : GG} {h : HP} {a n : Nat} {mc n9 : Int32} {nd it : Nat → Nat} {b j : Nat} {j9 : Int32} {x0 : Value} (hb : h b = some (bO 17 [x0, va_rf (inx nd n j), .int j9, .int mc, .ref a])) (hj : j9.toInt = (j : Int)) (hl : h a = some (bLL mc n9 nd n)) (hn9 : n9.toInt = (n : Int)) (hnd : ∀ i, i < n → h (nd i) = some (bNd nd it n i)) (hjn : j < n) : Ct G 1 0 M_J24_next [.ref b] h (eQ (some (.ref (it j))) (hu h b (bO 17 [.ref (nd j), va_rf (inx nd n (j + 1)), .int (j9 + 1), .int mc, .ref a]))) := by
  refine ct_intro my_J24_next (Nat.le_of_ble_eq_true rfl) ?_
  rw [inx_s hjn] at hb
  have hnb : ∀ i, i < n → nd i ≠ b := fun i hi => ne_O hb (hnd i hi) (by decide)
  first | refine r_aload_n dJ24_next_0 rfl ?_ | refine r_aload_nq dJ24_next_0 rfl ?_ | refine r_aload_nN dJ24_next_0 rfl ?_
  refine r_invV dJ24_next_1 (sp_J24_checkForComodification (j := j) (n := n) (nd := nd) (by rw [inx_s hjn]; exact hb) hj hl) rfl mo_J24_checkForComodification (by first | exact Or.inl (by assumption) | assumption | (refine Or.inl ?_; repeat' first | assumption | exact hu_s | refine hu_o (by assumption) ?_ | refine (hu_n (by first | assumption | exact Ne.symm (by assumption) | exact ne_o (by assumption) (by assumption) | exact Ne.symm (ne_o (by assumption) (by assumption)))).trans ?_)) rfl (lkA q857) (lkA q858) (lkA q859) rfl (lkA q95) mp_J24_checkForComodification (Nat.le_of_ble_eq_true rfl) (Nat.le_of_ble_eq_true rfl) (Nat.le_of_ble_eq_true rfl) (kr_e ?_) kx_e
  first | refine r_aload_n dJ24_next_4 rfl ?_ | refine r_aload_nq dJ24_next_4 rfl ?_ | refine r_aload_nN dJ24_next_4 rfl ?_
  refine r_invV dJ24_next_5 (sp_J24_hasNext (j := j) (n := n) (nd := nd) (by rw [inx_s hjn]; exact hb) hj hl hn9) rfl mo_J24_hasNext (by first | exact Or.inl (by assumption) | assumption | (refine Or.inl ?_; repeat' first | assumption | exact hu_s | refine hu_o (by assumption) ?_ | refine (hu_n (by first | assumption | exact Ne.symm (by assumption) | exact ne_o (by assumption) (by assumption) | exact Ne.symm (ne_o (by assumption) (by assumption)))).trans ?_)) rfl (lkA q861) (lkA q547) (lkA q2241) rfl (lkA q95) mp_J24_hasNext (Nat.le_of_ble_eq_true rfl) (Nat.le_of_ble_eq_true rfl) (Nat.le_of_ble_eq_true rfl) (kr_e ?_) kx_e
  refine r_if_ne 19 dJ24_next_8 rfl (fun c8 => ?_) (fun c8 => absurd c8 (by rw [if_pos hjn]; decide))
  first | refine r_aload_n dJ24_next_19 rfl ?_ | refine r_aload_nq dJ24_next_19 rfl ?_ | refine r_aload_nN dJ24_next_19 rfl ?_
  first | refine r_aload_n dJ24_next_20 rfl ?_ | refine r_aload_nq dJ24_next_20 rfl ?_ | refine r_aload_nN dJ24_next_20 rfl ?_
  refine r_getfield 17 1 dJ24_next_21 rfl (Nat.le_of_ble_eq_true rfl) (lkA q957) (Or.inl rfl) (by first | exact Or.inl (by assumption) | assumption | (refine Or.inl ?_; repeat' first | assumption | exact hu_s | refine hu_o (by assumption) ?_ | refine (hu_n (by first | assumption | exact Ne.symm (by assumption) | exact ne_o (by assumption) (by assumption) | exact Ne.symm (ne_o (by assumption) (by assumption)))).trans ?_)) (show _ = some (Value.ref (nd j)) from rfl) ?_
  refine r_put 17 0 dJ24_next_24 rfl (Nat.le_of_ble_eq_true rfl) (lkA q956) (Or.inl rfl) rfl (by repeat' first | assumption | exact hu_s | refine hu_o (by assumption) ?_ | refine (hu_n (by first | assumption | exact Ne.symm (by assumption) | exact ne_o (by assumption) (by assumption) | exact Ne.symm (ne_o (by assumption) (by assumption)))).trans ?_) (by dsimp only [List.set]) (Nat.le_of_ble_eq_true rfl) rfl rfl (by first | exact hu_hu | exact rfl) ?_
  first | refine r_aload_n dJ24_next_27 rfl ?_ | refine r_aload_nq dJ24_next_27 rfl ?_ | refine r_aload_nN dJ24_next_27 rfl ?_
  first | refine r_aload_n dJ24_next_28 rfl ?_ | refine r_aload_nq dJ24_next_28 rfl ?_ | refine r_aload_nN dJ24_next_28 rfl ?_
  refine r_getfield 17 1 dJ24_next_29 rfl (Nat.le_of_ble_eq_true rfl) (lkA q957) (Or.inl rfl) (by first | exact Or.inl (by assumption) | assumption | (refine Or.inl ?_; repeat' first | assumption | exact hu_s | refine hu_o (by assumption) ?_ | refine (hu_n (by first | assumption | exact Ne.symm (by assumption) | exact ne_o (by assumption) (by assumption) | exact Ne.symm (ne_o (by assumption) (by assumption)))).trans ?_)) (show _ = some (Value.ref (nd j)) from rfl) ?_
  refine r_getfield 18 1 dJ24_next_32 rfl (Nat.le_of_ble_eq_true rfl) (lkA q1030) (Or.inl rfl) (Or.inl ((hu_n (hnb j hjn)).trans (hnd j hjn))) (by rfl) ?_
  refine r_put 17 1 dJ24_next_35 rfl (Nat.le_of_ble_eq_true rfl) (lkA q957) (Or.inl rfl) rfl (by repeat' first | assumption | exact hu_s | refine hu_o (by assumption) ?_ | refine (hu_n (by first | assumption | exact Ne.symm (by assumption) | exact ne_o (by assumption) (by assumption) | exact Ne.symm (ne_o (by assumption) (by assumption)))).trans ?_) (by dsimp only [List.set]) (Nat.le_of_ble_eq_true rfl) (nar_rf rfl _) (fit_rf rfl _) (by first | exact hu_hu | exact rfl) ?_
  first | refine r_aload_n dJ24_next_38 rfl ?_ | refine r_aload_nq dJ24_next_38 rfl ?_ | refine r_aload_nN dJ24_next_38 rfl ?_
  refine r_dup dJ24_next_39 rfl ?_
  refine r_getfield 17 2 dJ24_next_40 rfl (Nat.le_of_ble_eq_true rfl) (lkA q958) (Or.inl rfl) (by first | exact Or.inl (by assumption) | assumption | (refine Or.inl ?_; repeat' first | assumption | exact hu_s | refine hu_o (by assumption) ?_ | refine (hu_n (by first | assumption | exact Ne.symm (by assumption) | exact ne_o (by assumption) (by assumption) | exact Ne.symm (ne_o (by assumption) (by assumption)))).trans ?_)) (by rfl) ?_
  refine r_iconst (v := 1) dJ24_next_43 rfl ?_
  refine r_iadd dJ24_next_44 ?_
  refine r_put 17 2 dJ24_next_45 rfl (Nat.le_of_ble_eq_true rfl) (lkA q958) (Or.inl rfl) rfl (by repeat' first | assumption | exact hu_s | refine hu_o (by assumption) ?_ | refine (hu_n (by first | assumption | exact Ne.symm (by assumption) | exact ne_o (by assumption) (by assumption) | exact Ne.symm (ne_o (by assumption) (by assumption)))).trans ?_) (by dsimp only [List.set]) (Nat.le_of_ble_eq_true rfl) rfl rfl (by first | exact hu_hu | exact rfl) ?_
  first | refine r_aload_n dJ24_next_48 rfl ?_ | refine r_aload_nq dJ24_next_48 rfl ?_ | refine r_aload_nN dJ24_next_48 rfl ?_
  refine r_getfield 17 0 dJ24_next_49 rfl (Nat.le_of_ble_eq_true rfl) (lkA q956) (Or.inl rfl) (by first | exact Or.inl (by assumption) | assumption | (refine Or.inl ?_; repeat' first | assumption | exact hu_s | refine hu_o (by assumption) ?_ | refine (hu_n (by first | assumption | exact Ne.symm (by assumption) | exact ne_o (by assumption) (by assumption) | exact Ne.symm (ne_o (by assumption) (by assumption)))).trans ?_)) (by rfl) ?_
  refine r_getfield 18 0 dJ24_next_52 rfl (Nat.le_of_ble_eq_true rfl) (lkA q1027) (Or.inl rfl) (Or.inl ((hu_n (hnb j hjn)).trans (hnd j hjn))) (by rfl) ?_
  first | exact r_areturn dJ24_next_55 rfl rfl (by first | exact ⟨rfl, rfl⟩ | rfl) | exact r_areturnq dJ24_next_55 rfl rfl (by first | exact ⟨rfl, rfl⟩ | rfl) | exact r_areturnN dJ24_next_55 rfl rfl (by first | exact ⟨rfl, rfl⟩ | rfl)

set_option maxHeartbeats 4000000 in
set_option maxRecDepth 100000 in
theorem sp_J25_initN {G : GG} {h : HP} {q v : Nat} {x0 x1 x2 : Value} (hq : h q = some (bO 18 [x0, x1, x2])) : Ct G 1 0 M_J25_init [.ref q, .null, .ref v, .null] h (eQ none (hu h q (bO 18 [.ref v, .null, .null]))) := by
  refine ct_intro my_J25_init (Nat.le_of_ble_eq_true rfl) ?_
  first | refine r_aload_n dJ25_init_0 rfl ?_ | refine r_aload_nq dJ25_init_0 rfl ?_ | refine r_aload_nN dJ25_init_0 rfl ?_
  refine r_objinit (w1 := .tt) dJ25_init_1 (lkA q1025) (lkA q112) (lkA q113) (Nat.le_of_ble_eq_true rfl) (Nat.le_of_ble_eq_true rfl) ?_
  first | refine r_aload_n dJ25_init_4 rfl ?_ | refine r_aload_nq dJ25_init_4 rfl ?_ | refine r_aload_nN dJ25_init_4 rfl ?_
  first | refine r_aload_n dJ25_init_5 rfl ?_ | refine r_aload_nq dJ25_init_5 rfl ?_ | refine r_aload_nN dJ25_init_5 rfl ?_
  refine r_put 18 0 dJ25_init_6 rfl (Nat.le_of_ble_eq_true rfl) (lkA q1026) (Or.inl rfl) rfl (by repeat' first | assumption | exact hu_s | refine hu_o (by assumption) ?_ | refine (hu_n (by first | assumption | exact Ne.symm (by assumption) | exact ne_o (by assumption) (by assumption) | exact Ne.symm (ne_o (by assumption) (by assumption)))).trans ?_) (by dsimp only [List.set]) (Nat.le_of_ble_eq_true rfl) rfl rfl (by first | exact hu_hu | exact rfl) ?_
  first | refine r_aload_n dJ25_init_9 rfl ?_ | refine r_aload_nq dJ25_init_9 rfl ?_ | refine r_aload_nN dJ25_init_9 rfl ?_
  first | refine r_aload_n dJ25_init_10 rfl ?_ | refine r_aload_nq dJ25_init_10 rfl ?_ | refine r_aload_nN dJ25_init_10 rfl ?_
  refine r_put 18 1 dJ25_init_11 rfl (Nat.le_of_ble_eq_true rfl) (lkA q1029) (Or.inl rfl) rfl (by repeat' first | assumption | exact hu_s | refine hu_o (by assumption) ?_ | refine (hu_n (by first | assumption | exact Ne.symm (by assumption) | exact ne_o (by assumption) (by assumption) | exact Ne.symm (ne_o (by assumption) (by assumption)))).trans ?_) (by dsimp only [List.set]) (Nat.le_of_ble_eq_true rfl) rfl rfl (by first | exact hu_hu | exact rfl) ?_
  first | refine r_aload_n dJ25_init_14 rfl ?_ | refine r_aload_nq dJ25_init_14 rfl ?_ | refine r_aload_nN dJ25_init_14 rfl ?_
  first | refine r_aload_n dJ25_init_15 rfl ?_ | refine r_aload_nq dJ25_init_15 rfl ?_ | refine r_aload_nN dJ25_init_15 rfl ?_
  refine r_put 18 2 dJ25_init_16 rfl (Nat.le_of_ble_eq_true rfl) (lkA q1032) (Or.inl rfl) rfl (by repeat' first | assumption | exact hu_s | refine hu_o (by assumption) ?_ | refine (hu_n (by first | assumption | exact Ne.symm (by assumption) | exact ne_o (by assumption) (by assumption) | exact Ne.symm (ne_o (by assumption) (by assumption)))).trans ?_) (by dsimp only [List.set]) (Nat.le_of_ble_eq_true rfl) rfl rfl (by first | exact hu_hu | exact rfl) ?_
  exact r_return dJ25_init_19 rfl (by first | exact ⟨rfl, rfl⟩ | rfl)

set_option maxHeartbeats 4000000 in
set_option maxRecDepth 100000 in
theorem sp_J25_initR {G : GG} {h : HP} {q v : Nat} {x0 x1 x2 : Value} {p : Nat} (hq : h q = some (bO 18 [x0, x1, x2])) : Ct G 1 0 M_J25_init [.ref q, .ref p, .ref v, .null] h (eQ none (hu h q (bO 18 [.ref v, .null, .ref p]))) := by
  refine ct_intro my_J25_init (Nat.le_of_ble_eq_true rfl) ?_
  first | refine r_aload_n dJ25_init_0 rfl ?_ | refine r_aload_nq dJ25_init_0 rfl ?_ | refine r_aload_nN dJ25_init_0 rfl ?_
  refine r_objinit (w1 := .tt) dJ25_init_1 (lkA q1025) (lkA q112) (lkA q113) (Nat.le_of_ble_eq_true rfl) (Nat.le_of_ble_eq_true rfl) ?_
  first | refine r_aload_n dJ25_init_4 rfl ?_ | refine r_aload_nq dJ25_init_4 rfl ?_ | refine r_aload_nN dJ25_init_4 rfl ?_
  first | refine r_aload_n dJ25_init_5 rfl ?_ | refine r_aload_nq dJ25_init_5 rfl ?_ | refine r_aload_nN dJ25_init_5 rfl ?_
  refine r_put 18 0 dJ25_init_6 rfl (Nat.le_of_ble_eq_true rfl) (lkA q1026) (Or.inl rfl) rfl (by repeat' first | assumption | exact hu_s | refine hu_o (by assumption) ?_ | refine (hu_n (by first | assumption | exact Ne.symm (by assumption) | exact ne_o (by assumption) (by assumption) | exact Ne.symm (ne_o (by assumption) (by assumption)))).trans ?_) (by dsimp only [List.set]) (Nat.le_of_ble_eq_true rfl) rfl rfl (by first | exact hu_hu | exact rfl) ?_
  first | refine r_aload_n dJ25_init_9 rfl ?_ | refine r_aload_nq dJ25_init_9 rfl ?_ | refine r_aload_nN dJ25_init_9 rfl ?_
  first | refine r_aload_n dJ25_init_10 rfl ?_ | refine r_aload_nq dJ25_init_10 rfl ?_ | refine r_aload_nN dJ25_init_10 rfl ?_
  refine r_put 18 1 dJ25_init_11 rfl (Nat.le_of_ble_eq_true rfl) (lkA q1029) (Or.inl rfl) rfl (by repeat' first | assumption | exact hu_s | refine hu_o (by assumption) ?_ | refine (hu_n (by first | assumption | exact Ne.symm (by assumption) | exact ne_o (by assumption) (by assumption) | exact Ne.symm (ne_o (by assumption) (by assumption)))).trans ?_) (by dsimp only [List.set]) (Nat.le_of_ble_eq_true rfl) rfl rfl (by first | exact hu_hu | exact rfl) ?_
  first | refine r_aload_n dJ25_init_14 rfl ?_ | refine r_aload_nq dJ25_init_14 rfl ?_ | refine r_aload_nN dJ25_init_14 rfl ?_
  first | refine r_aload_n dJ25_init_15 rfl ?_ | refine r_aload_nq dJ25_init_15 rfl ?_ | refine r_aload_nN dJ25_init_15 rfl ?_
  refine r_put 18 2 dJ25_init_16 rfl (Nat.le_of_ble_eq_true rfl) (lkA q1032) (Or.inl rfl) rfl (by repeat' first | assumption | exact hu_s | refine hu_o (by assumption) ?_ | refine (hu_n (by first | assumption | exact Ne.symm (by assumption) | exact ne_o (by assumption) (by assumption) | exact Ne.symm (ne_o (by assumption) (by assumption)))).trans ?_) (by dsimp only [List.set]) (Nat.le_of_ble_eq_true rfl) rfl rfl (by first | exact hu_hu | exact rfl) ?_
  exact r_return dJ25_init_19 rfl (by first | exact ⟨rfl, rfl⟩ | rfl)

set_option maxHeartbeats 4000000 in
set_option maxRecDepth 100000 in
theorem sp_J4_linkLast0 {G : GG} {h : HP} {a n : Nat} {mc n9 : Int32} {nd : Nat → Nat} {v : Nat} (hl : h a = some (bLL mc n9 nd n)) (hn9 : n9.toInt = (n : Int)) (h0 : n = 0) : Ct G 2 4 M_J4_linkLast [.ref a, .ref v] h (rQ (fun v' h' => v' = none ∧ ∃ q, h q = none ∧ h' = hu (hu h q (bO 18 [.ref v, .null, .null])) a (bO 11 [.int (mc + 1), .int (n9 + 1), .ref q, .ref q]))) := by
  refine ct_intro my_J4_linkLast (Nat.le_of_ble_eq_true rfl) ?_
  subst h0
  rw [show bLL mc n9 nd 0 = bO 11 [.int mc, .int n9, .null, .null] from rfl] at hl
  first | refine r_aload_n dJ4_linkLast_0 rfl ?_ | refine r_aload_nq dJ4_linkLast_0 rfl ?_ | refine r_aload_nN dJ4_linkLast_0 rfl ?_
  refine r_getfield 11 3 dJ4_linkLast_1 rfl (Nat.le_of_ble_eq_true rfl) (lkA q167) (Or.inl rfl) (by first | exact Or.inl (by assumption) | assumption | (refine Or.inl ?_; repeat' first | assumption | exact hu_s | refine hu_o (by assumption) ?_ | refine (hu_n (by first | assumption | exact Ne.symm (by assumption) | exact ne_o (by assumption) (by assumption) | exact Ne.symm (ne_o (by assumption) (by assumption)))).trans ?_)) (by rfl) ?_
  first | refine r_astore_n dJ4_linkLast_4 (Nat.le_of_ble_eq_true rfl) ?_ | refine r_astore_nq dJ4_linkLast_4 (Nat.le_of_ble_eq_true rfl) ?_ | refine r_astore_nN dJ4_linkLast_4 (Nat.le_of_ble_eq_true rfl) ?_
  refine r_new 18 [.null, .null, .null] dJ4_linkLast_5 rfl (lkA q1020) (lkA q1021) (lkA q97) (fun j hj => match j, hj with | 0, _ => rfl | 1, _ => rfl | 2, _ => rfl | k + 3, hk => absurd hk (Nat.not_lt.mpr (Nat.le_add_left 3 k))) (Nat.le_of_ble_eq_true rfl) (fun q5 hq5 => ?_)
  refine r_dup dJ4_linkLast_8 rfl ?_
  first | refine r_aload_n dJ4_linkLast_9 rfl ?_ | refine r_aload_nq dJ4_linkLast_9 rfl ?_ | refine r_aload_nN dJ4_linkLast_9 rfl ?_
  first | refine r_aload_n dJ4_linkLast_10 rfl ?_ | refine r_aload_nq dJ4_linkLast_10 rfl ?_ | refine r_aload_nN dJ4_linkLast_10 rfl ?_
  refine r_null dJ4_linkLast_11 ?_
  refine r_invI dJ4_linkLast_12 (sp_J25_initN hu_s) rfl mo_J25_init (lkA q1022) (lkA q1023) rfl rfl rfl (lkA q97) mp_J25_init (Nat.le_of_ble_eq_true rfl) (Nat.le_of_ble_eq_true rfl) (Nat.le_of_ble_eq_true rfl) (kr_e ?_) kx_e
  try simp only [hu_hu]
  have hla := hu_o (b' := bO 18 [.ref v, .null, .null]) hq5 hl
  have eaq : a ≠ q5 := ne_o hq5 hl
  first | refine r_astore_n dJ4_linkLast_15 (Nat.le_of_ble_eq_true rfl) ?_ | refine r_astore_nq dJ4_linkLast_15 (Nat.le_of_ble_eq_true rfl) ?_ | refine r_astore_nN dJ4_linkLast_15 (Nat.le_of_ble_eq_true rfl) ?_
  first | refine r_aload_n dJ4_linkLast_16 rfl ?_ | refine r_aload_nq dJ4_linkLast_16 rfl ?_ | refine r_aload_nN dJ4_linkLast_16 rfl ?_
  first | refine r_aload_n dJ4_linkLast_17 rfl ?_ | refine r_aload_nq dJ4_linkLast_17 rfl ?_ | refine r_aload_nN dJ4_linkLast_17 rfl ?_
  refine r_put 11 3 dJ4_linkLast_18 rfl (Nat.le_of_ble_eq_true rfl) (lkA q167) (Or.inl rfl) rfl hla (by dsimp only [List.set]) (Nat.le_of_ble_eq_true rfl) rfl rfl (by first | exact hu_hu | exact rfl) ?_
  first | refine r_aload_n dJ4_linkLast_21 rfl ?_ | refine r_aload_nq dJ4_linkLast_21 rfl ?_ | refine r_aload_nN dJ4_linkLast_21 rfl ?_
  refine r_ifnonnullN dJ4_linkLast_22 ?_
  first | refine r_aload_n dJ4_linkLast_25 rfl ?_ | refine r_aload_nq dJ4_linkLast_25 rfl ?_ | refine r_aload_nN dJ4_linkLast_25 rfl ?_
  first | refine r_aload_n dJ4_linkLast_26 rfl ?_ | refine r_aload_nq dJ4_linkLast_26 rfl ?_ | refine r_aload_nN dJ4_linkLast_26 rfl ?_
  refine r_put 11 2 dJ4_linkLast_27 rfl (Nat.le_of_ble_eq_true rfl) (lkA q166) (Or.inl rfl) rfl (by repeat' first | assumption | exact hu_s | refine hu_o (by assumption) ?_ | refine (hu_n (by first | assumption | exact Ne.symm (by assumption) | exact ne_o (by assumption) (by assumption) | exact Ne.symm (ne_o (by assumption) (by assumption)))).trans ?_) (by dsimp only [List.set]) (Nat.le_of_ble_eq_true rfl) rfl rfl (by first | exact hu_hu | exact rfl) ?_
  refine r_goto 38 dJ4_linkLast_30 rfl ?_
  first | refine r_aload_n dJ4_linkLast_38 rfl ?_ | refine r_aload_nq dJ4_linkLast_38 rfl ?_ | refine r_aload_nN dJ4_linkLast_38 rfl ?_
  refine r_dup dJ4_linkLast_39 rfl ?_
  refine r_getfield 11 1 dJ4_linkLast_40 rfl (Nat.le_of_ble_eq_true rfl) (lkA q164) (Or.inl rfl) (by first | exact Or.inl (by assumption) | assumption | (refine Or.inl ?_; repeat' first | assumption | exact hu_s | refine hu_o (by assumption) ?_ | refine (hu_n (by first | assumption | exact Ne.symm (by assumption) | exact ne_o (by assumption) (by assumption) | exact Ne.symm (ne_o (by assumption) (by assumption)))).trans ?_)) (by rfl) ?_
  refine r_iconst (v := 1) dJ4_linkLast_43 rfl ?_
  refine r_iadd dJ4_linkLast_44 ?_
  refine r_put 11 1 dJ4_linkLast_45 rfl (Nat.le_of_ble_eq_true rfl) (lkA q164) (Or.inl rfl) rfl (by repeat' first | assumption | exact hu_s | refine hu_o (by assumption) ?_ | refine (hu_n (by first | assumption | exact Ne.symm (by assumption) | exact ne_o (by assumption) (by assumption) | exact Ne.symm (ne_o (by assumption) (by assumption)))).trans ?_) (by dsimp only [List.set]) (Nat.le_of_ble_eq_true rfl) rfl rfl (by first | exact hu_hu | exact rfl) ?_
  first | refine r_aload_n dJ4_linkLast_48 rfl ?_ | refine r_aload_nq dJ4_linkLast_48 rfl ?_ | refine r_aload_nN dJ4_linkLast_48 rfl ?_
  refine r_dup dJ4_linkLast_49 rfl ?_
  refine r_getfield 11 0 dJ4_linkLast_50 rfl (Nat.le_of_ble_eq_true rfl) (lkA q146) (Or.inr (lkA q142)) (by first | exact Or.inl (by assumption) | assumption | (refine Or.inl ?_; repeat' first | assumption | exact hu_s | refine hu_o (by assumption) ?_ | refine (hu_n (by first | assumption | exact Ne.symm (by assumption) | exact ne_o (by assumption) (by assumption) | exact Ne.symm (ne_o (by assumption) (by assumption)))).trans ?_)) (by rfl) ?_
  refine r_iconst (v := 1) dJ4_linkLast_53 rfl ?_
  refine r_iadd dJ4_linkLast_54 ?_
  refine r_put 11 0 dJ4_linkLast_55 rfl (Nat.le_of_ble_eq_true rfl) (lkA q146) (Or.inr (lkA q142)) rfl (by repeat' first | assumption | exact hu_s | refine hu_o (by assumption) ?_ | refine (hu_n (by first | assumption | exact Ne.symm (by assumption) | exact ne_o (by assumption) (by assumption) | exact Ne.symm (ne_o (by assumption) (by assumption)))).trans ?_) (by dsimp only [List.set]) (Nat.le_of_ble_eq_true rfl) rfl rfl (by first | exact hu_hu | exact rfl) ?_
  exact r_return dJ4_linkLast_58 rfl ⟨rfl, q5, hq5, rfl⟩

set_option maxHeartbeats 4000000 in
set_option maxRecDepth 100000 in
theorem sp_J4_addLast0 {G : GG} {h : HP} {a n : Nat} {mc n9 : Int32} {nd : Nat → Nat} {v : Nat} (hl : h a = some (bLL mc n9 nd n)) (hn9 : n9.toInt = (n : Int)) (h0 : n = 0) : Ct G 3 4 M_J4_addLast [.ref a, .ref v] h (rQ (fun v' h' => v' = none ∧ ∃ q, h q = none ∧ h' = hu (hu h q (bO 18 [.ref v, .null, .null])) a (bO 11 [.int (mc + 1), .int (n9 + 1), .ref q, .ref q]))) := by
  refine ct_intro my_J4_addLast (Nat.le_of_ble_eq_true rfl) ?_
  first | refine r_aload_n dJ4_addLast_0 rfl ?_ | refine r_aload_nq dJ4_addLast_0 rfl ?_ | refine r_aload_nN dJ4_addLast_0 rfl ?_
  first | refine r_aload_n dJ4_addLast_1 rfl ?_ | refine r_aload_nq dJ4_addLast_1 rfl ?_ | refine r_aload_nN dJ4_addLast_1 rfl ?_
  refine r_invV dJ4_addLast_2 (sp_J4_linkLast0 hl hn9 h0) rfl mo_J4_linkLast (by first | exact Or.inl (by assumption) | assumption | (refine Or.inl ?_; repeat' first | assumption | exact hu_s | refine hu_o (by assumption) ?_ | refine (hu_n (by first | assumption | exact Ne.symm (by assumption) | exact ne_o (by assumption) (by assumption) | exact Ne.symm (ne_o (by assumption) (by assumption)))).trans ?_)) rfl (lkA q1016) (lkA q1017) (lkA q1018) rfl (lkA q70) mp_J4_linkLast (Nat.le_of_ble_eq_true rfl) (Nat.le_of_ble_eq_true rfl) (Nat.le_of_ble_eq_true rfl) (kr_r (fun v9 h9 p9 => ?_)) kx_r
  obtain ⟨rfl, q, hq, rfl⟩ := p9
  exact r_return dJ4_addLast_5 rfl ⟨rfl, q, hq, rfl⟩

set_option maxHeartbeats 4000000 in
set_option maxRecDepth 100000 in
theorem sp_J4_linkLast1 {G : GG} {h : HP} {a n : Nat} {mc n9 : Int32} {nd : Nat → Nat} {v : Nat} (hl : h a = some (bLL mc n9 nd n)) (hn9 : n9.toInt = (n : Int)) {m : Nat} (h0 : n = m + 1) {y0 y1 y2 : Value} (hm : h (nd m) = some (bO 18 [y0, y1, y2])) : Ct G 2 4 M_J4_linkLast [.ref a, .ref v] h (rQ (fun v' h' => v' = none ∧ ∃ q, h q = none ∧ h' = hu (hu (hu h q (bO 18 [.ref v, .null, .ref (nd m)])) a (bO 11 [.int (mc + 1), .int (n9 + 1), va_rf (inx nd n 0), .ref q])) (nd m) (bO 18 [y0, .ref q, y2]))) := by
  refine ct_intro my_J4_linkLast (Nat.le_of_ble_eq_true rfl) ?_
  subst h0
  rw [show bLL mc n9 nd (m + 1) = bO 11 [.int mc, .int n9, va_rf (inx nd (m + 1) 0), .ref (nd m)] from rfl] at hl
  have e1 : a ≠ nd m := ne_O hm hl (by decide)
  first | refine r_aload_n dJ4_linkLast_0 rfl ?_ | refine r_aload_nq dJ4_linkLast_0 rfl ?_ | refine r_aload_nN dJ4_linkLast_0 rfl ?_
  refine r_getfield 11 3 dJ4_linkLast_1 rfl (Nat.le_of_ble_eq_true rfl) (lkA q167) (Or.inl rfl) (by first | exact Or.inl (by assumption) | assumption | (refine Or.inl ?_; repeat' first | assumption | exact hu_s | refine hu_o (by assumption) ?_ | refine (hu_n (by first | assumption | exact Ne.symm (by assumption) | exact ne_o (by assumption) (by assumption) | exact Ne.symm (ne_o (by assumption) (by assumption)))).trans ?_)) (by rfl) ?_
  first | refine r_astore_n dJ4_linkLast_4 (Nat.le_of_ble_eq_true rfl) ?_ | refine r_astore_nq dJ4_linkLast_4 (Nat.le_of_ble_eq_true rfl) ?_ | refine r_astore_nN dJ4_linkLast_4 (Nat.le_of_ble_eq_true rfl) ?_
  refine r_new 18 [.null, .null, .null] dJ4_linkLast_5 rfl (lkA q1020) (lkA q1021) (lkA q97) (fun j hj => match j, hj with | 0, _ => rfl | 1, _ => rfl | 2, _ => rfl | k + 3, hk => absurd hk (Nat.not_lt.mpr (Nat.le_add_left 3 k))) (Nat.le_of_ble_eq_true rfl) (fun q5 hq5 => ?_)
  refine r_dup dJ4_linkLast_8 rfl ?_
  first | refine r_aload_n dJ4_linkLast_9 rfl ?_ | refine r_aload_nq dJ4_linkLast_9 rfl ?_ | refine r_aload_nN dJ4_linkLast_9 rfl ?_
  first | refine r_aload_n dJ4_linkLast_10 rfl ?_ | refine r_aload_nq dJ4_linkLast_10 rfl ?_ | refine r_aload_nN dJ4_linkLast_10 rfl ?_
  refine r_null dJ4_linkLast_11 ?_
  refine r_invI dJ4_linkLast_12 (sp_J25_initR hu_s) rfl mo_J25_init (lkA q1022) (lkA q1023) rfl rfl rfl (lkA q97) mp_J25_init (Nat.le_of_ble_eq_true rfl) (Nat.le_of_ble_eq_true rfl) (Nat.le_of_ble_eq_true rfl) (kr_e ?_) kx_e
  try simp only [hu_hu]
  have hla := hu_o (b' := bO 18 [.ref v, .null, .ref (nd m)]) hq5 hl
  have eaq : a ≠ q5 := ne_o hq5 hl
  have emq : nd m ≠ q5 := ne_o hq5 hm
  first | refine r_astore_n dJ4_linkLast_15 (Nat.le_of_ble_eq_true rfl) ?_ | refine r_astore_nq dJ4_linkLast_15 (Nat.le_of_ble_eq_true rfl) ?_ | refine r_astore_nN dJ4_linkLast_15 (Nat.le_of_ble_eq_true rfl) ?_
  first | refine r_aload_n dJ4_linkLast_16 rfl ?_ | refine r_aload_nq dJ4_linkLast_16 rfl ?_ | refine r_aload_nN dJ4_linkLast_16 rfl ?_
  first | refine r_aload_n dJ4_linkLast_17 rfl ?_ | refine r_aload_nq dJ4_linkLast_17 rfl ?_ | refine r_aload_nN dJ4_linkLast_17 rfl ?_
  refine r_put 11 3 dJ4_linkLast_18 rfl (Nat.le_of_ble_eq_true rfl) (lkA q167) (Or.inl rfl) rfl hla (by dsimp only [List.set]) (Nat.le_of_ble_eq_true rfl) rfl rfl (by first | exact hu_hu | exact rfl) ?_
  first | refine r_aload_n dJ4_linkLast_21 rfl ?_ | refine r_aload_nq dJ4_linkLast_21 rfl ?_ | refine r_aload_nN dJ4_linkLast_21 rfl ?_
  refine r_ifnonnull 33 dJ4_linkLast_22 rfl ?_
  first | refine r_aload_n dJ4_linkLast_33 rfl ?_ | refine r_aload_nq dJ4_linkLast_33 rfl ?_ | refine r_aload_nN dJ4_linkLast_33 rfl ?_
  first | refine r_aload_n dJ4_linkLast_34 rfl ?_ | refine r_aload_nq dJ4_linkLast_34 rfl ?_ | refine r_aload_nN dJ4_linkLast_34 rfl ?_
  refine r_put 18 1 dJ4_linkLast_35 rfl (Nat.le_of_ble_eq_true rfl) (lkA q1031) (Or.inl rfl) rfl ((hu_n (Ne.symm e1)).trans ((hu_n emq).trans hm)) (by dsimp only [List.set]) (Nat.le_of_ble_eq_true rfl) rfl rfl (by first | exact hu_hu | exact rfl) ?_
  first | refine r_aload_n dJ4_linkLast_38 rfl ?_ | refine r_aload_nq dJ4_linkLast_38 rfl ?_ | refine r_aload_nN dJ4_linkLast_38 rfl ?_
  refine r_dup dJ4_linkLast_39 rfl ?_
  refine r_getfield 11 1 dJ4_linkLast_40 rfl (Nat.le_of_ble_eq_true rfl) (lkA q164) (Or.inl rfl) (Or.inl ((hu_n e1).trans hu_s)) (by rfl) ?_
  refine r_iconst (v := 1) dJ4_linkLast_43 rfl ?_
  refine r_iadd dJ4_linkLast_44 ?_
  refine r_put 11 1 dJ4_linkLast_45 rfl (Nat.le_of_ble_eq_true rfl) (lkA q164) (Or.inl rfl) rfl ((hu_n e1).trans hu_s) (by dsimp only [List.set]) (Nat.le_of_ble_eq_true rfl) rfl rfl (by first | exact hu_hu | exact rfl) ?_
  first | refine r_aload_n dJ4_linkLast_48 rfl ?_ | refine r_aload_nq dJ4_linkLast_48 rfl ?_ | refine r_aload_nN dJ4_linkLast_48 rfl ?_
  refine r_dup dJ4_linkLast_49 rfl ?_
  refine r_getfield 11 0 dJ4_linkLast_50 rfl (Nat.le_of_ble_eq_true rfl) (lkA q146) (Or.inr (lkA q142)) (Or.inl hu_s) (by rfl) ?_
  refine r_iconst (v := 1) dJ4_linkLast_53 rfl ?_
  refine r_iadd dJ4_linkLast_54 ?_
  refine r_put 11 0 dJ4_linkLast_55 rfl (Nat.le_of_ble_eq_true rfl) (lkA q146) (Or.inr (lkA q142)) rfl hu_s (by dsimp only [List.set]) (Nat.le_of_ble_eq_true rfl) rfl rfl (by first | exact hu_hu | exact rfl) ?_
  exact r_return dJ4_linkLast_58 rfl ⟨rfl, q5, hq5, by rw [hu_c (Ne.symm e1)]; simp only [hu_hu]⟩

set_option maxHeartbeats 4000000 in
set_option maxRecDepth 100000 in
theorem sp_J4_addLast1 {G : GG} {h : HP} {a n : Nat} {mc n9 : Int32} {nd : Nat → Nat} {v : Nat} (hl : h a = some (bLL mc n9 nd n)) (hn9 : n9.toInt = (n : Int)) {m : Nat} (h0 : n = m + 1) {y0 y1 y2 : Value} (hm : h (nd m) = some (bO 18 [y0, y1, y2])) : Ct G 3 4 M_J4_addLast [.ref a, .ref v] h (rQ (fun v' h' => v' = none ∧ ∃ q, h q = none ∧ h' = hu (hu (hu h q (bO 18 [.ref v, .null, .ref (nd m)])) a (bO 11 [.int (mc + 1), .int (n9 + 1), va_rf (inx nd n 0), .ref q])) (nd m) (bO 18 [y0, .ref q, y2]))) := by
  refine ct_intro my_J4_addLast (Nat.le_of_ble_eq_true rfl) ?_
  first | refine r_aload_n dJ4_addLast_0 rfl ?_ | refine r_aload_nq dJ4_addLast_0 rfl ?_ | refine r_aload_nN dJ4_addLast_0 rfl ?_
  first | refine r_aload_n dJ4_addLast_1 rfl ?_ | refine r_aload_nq dJ4_addLast_1 rfl ?_ | refine r_aload_nN dJ4_addLast_1 rfl ?_
  refine r_invV dJ4_addLast_2 (sp_J4_linkLast1 hl hn9 h0 hm) rfl mo_J4_linkLast (by first | exact Or.inl (by assumption) | assumption | (refine Or.inl ?_; repeat' first | assumption | exact hu_s | refine hu_o (by assumption) ?_ | refine (hu_n (by first | assumption | exact Ne.symm (by assumption) | exact ne_o (by assumption) (by assumption) | exact Ne.symm (ne_o (by assumption) (by assumption)))).trans ?_)) rfl (lkA q1016) (lkA q1017) (lkA q1018) rfl (lkA q70) mp_J4_linkLast (Nat.le_of_ble_eq_true rfl) (Nat.le_of_ble_eq_true rfl) (Nat.le_of_ble_eq_true rfl) (kr_r (fun v9 h9 p9 => ?_)) kx_r
  obtain ⟨rfl, q, hq, rfl⟩ := p9
  exact r_return dJ4_addLast_5 rfl ⟨rfl, q, hq, rfl⟩

