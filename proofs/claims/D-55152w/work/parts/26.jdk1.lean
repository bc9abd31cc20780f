set_option maxRecDepth 100000
theorem ov_none_hu {h : HP} {a q : Nat} {x : Bd} (hq : hu h a x q = none) : q ≠ a ∧ h q = none := by
  by_cases e : q = a
  · subst e; rw [hu_s] at hq; cases hq
  · exact ⟨e, (hu_n e).symm.trans hq⟩
theorem hu_c {h : HP} {a q : Nat} {x y : Bd} (e : a ≠ q) : hu (hu h a x) q y = hu (hu h q y) a x := by
  funext p
  by_cases e1 : p = a
  · subst e1
    rw [hu_n e, hu_s, hu_s]
  · by_cases e2 : p = q
    · subst e2
      rw [hu_s, hu_n e1, hu_s]
    · rw [hu_n e2, hu_n e1, hu_n e1, hu_n e2]
/-- statics that are read and never written -/
def KS (G : GG) : Prop := Stt G "java/lang/String" "COMPACT_STRINGS" "Z" (.int 1) ∧ Stt G "java/util/BitSet" "$assertionsDisabled" "Z" (.int 1) ∧ Stt G "java/lang/StringUTF16" "$assertionsDisabled" "Z" (.int 1) ∧ (∃ x : Option Nat, Stt G "java/lang/Throwable" "UNASSIGNED_STACK" "[Ljava/lang/StackTraceElement;" (va_rf x)) ∧ (∃ x : Option Nat, Stt G "java/lang/Throwable" "SUPPRESSED_SENTINEL" "Ljava/util/List;" (va_rf x))
set_option maxHeartbeats 4000000 in
set_option maxRecDepth 100000 in
theorem sp_J0_init {G : GG} {h : HP} {a : Nat} : Ct G 1 0 M_J0_init [.ref a] h (eQ none h) := by
  refine ct_intro my_J0_init (Nat.le_of_ble_eq_true rfl) ?_
  first | refine r_aload_n dJ0_init_0 rfl ?_ | refine r_aload_nq dJ0_init_0 rfl ?_ | refine r_aload_nN dJ0_init_0 rfl ?_
  refine r_objinit (w1 := .tt) dJ0_init_1 (lkA q131) (lkA q112) (lkA q113) (Nat.le_of_ble_eq_true rfl) (Nat.le_of_ble_eq_true rfl) ?_
  exact r_return dJ0_init_4 rfl (by first | exact ⟨rfl, rfl⟩ | rfl)

set_option maxHeartbeats 4000000 in
set_option maxRecDepth 100000 in
theorem sp_J1_init {G : GG} {h : HP} {a : Nat} {x0 x1 x2 : Value} (ha : h a = some (bO 10 [x0, x1, x2])) : Ct G 2 0 M_J1_init [.ref a] h (eQ none (hu h a (bO 10 [.int 0, x1, x2]))) := by
  refine ct_intro my_J1_init (Nat.le_of_ble_eq_true rfl) ?_
  first | refine r_aload_n dJ1_init_0 rfl ?_ | refine r_aload_nq dJ1_init_0 rfl ?_ | refine r_aload_nN dJ1_init_0 rfl ?_
  refine r_invI dJ1_init_1 (sp_J0_init ) rfl mo_J0_init (lkA q128) (lkA q129) rfl rfl rfl (lkA q66) mp_J0_init (Nat.le_of_ble_eq_true rfl) (Nat.le_of_ble_eq_true rfl) (Nat.le_of_ble_eq_true rfl) (kr_e ?_) kx_e
  try simp only [hu_hu]
  first | refine r_aload_n dJ1_init_4 rfl ?_ | refine r_aload_nq dJ1_init_4 rfl ?_ | refine r_aload_nN dJ1_init_4 rfl ?_
  refine r_iconst (v := 0) dJ1_init_5 rfl ?_
  refine r_put 10 0 dJ1_init_6 rfl (Nat.le_of_ble_eq_true rfl) (lkA q140) (Or.inl rfl) rfl (by repeat' first | assumption | exact hu_s | refine hu_o (by assumption) ?_ | refine (hu_n (by first | assumption | exact Ne.symm (by assumption) | exact ne_o (by assumption) (by assumption) | exact Ne.symm (ne_o (by assumption) (by assumption)))).trans ?_) (by dsimp only [List.set]) (Nat.le_of_ble_eq_true rfl) rfl rfl (by first | exact hu_hu | exact rfl) ?_
  exact r_return dJ1_init_9 rfl (by first | exact ⟨rfl, rfl⟩ | rfl)

set_option maxHeartbeats 4000000 in
set_option maxRecDepth 100000 in
theorem sp_J1_initL {G : GG} {h : HP} {a : Nat} {x0 x1 x2 x3 : Value} (ha : h a = some (bO 11 [x0, x1, x2, x3])) : Ct G 2 0 M_J1_init [.ref a] h (eQ none (hu h a (bO 11 [.int 0, x1, x2, x3]))) := by
  refine ct_intro my_J1_init (Nat.le_of_ble_eq_true rfl) ?_
  first | refine r_aload_n dJ1_init_0 rfl ?_ | refine r_aload_nq dJ1_init_0 rfl ?_ | refine r_aload_nN dJ1_init_0 rfl ?_
  refine r_invI dJ1_init_1 (sp_J0_init ) rfl mo_J0_init (lkA q128) (lkA q129) rfl rfl rfl (lkA q66) mp_J0_init (Nat.le_of_ble_eq_true rfl) (Nat.le_of_ble_eq_true rfl) (Nat.le_of_ble_eq_true rfl) (kr_e ?_) kx_e
  try simp only [hu_hu]
  first | refine r_aload_n dJ1_init_4 rfl ?_ | refine r_aload_nq dJ1_init_4 rfl ?_ | refine r_aload_nN dJ1_init_4 rfl ?_
  refine r_iconst (v := 0) dJ1_init_5 rfl ?_
  refine r_put 11 0 dJ1_init_6 rfl (Nat.le_of_ble_eq_true rfl) (lkA q140) (Or.inl rfl) rfl (by repeat' first | assumption | exact hu_s | refine hu_o (by assumption) ?_ | refine (hu_n (by first | assumption | exact Ne.symm (by assumption) | exact ne_o (by assumption) (by assumption) | exact Ne.symm (ne_o (by assumption) (by assumption)))).trans ?_) (by dsimp only [List.set]) (Nat.le_of_ble_eq_true rfl) rfl rfl (by first | exact hu_hu | exact rfl) ?_
  exact r_return dJ1_init_9 rfl (by first | exact ⟨rfl, rfl⟩ | rfl)

set_option maxHeartbeats 4000000 in
set_option maxRecDepth 100000 in
theorem sp_J2_size {G : GG} {h : HP} {a r : Nat} {mc n : Int32} (hl : h a = some (bO 10 [.int mc, .ref r, .int n])) : Ct G 0 0 M_J2_size [.ref a] h (eQ (some (.int n)) h) := by
  refine ct_intro my_J2_size (Nat.le_of_ble_eq_true rfl) ?_
  first | refine r_aload_n dJ2_size_0 rfl ?_ | refine r_aload_nq dJ2_size_0 rfl ?_ | refine r_aload_nN dJ2_size_0 rfl ?_
  refine r_getfield 10 2 dJ2_size_1 rfl (Nat.le_of_ble_eq_true rfl) (lkA q139) (Or.inl rfl) (by first | exact Or.inl (by assumption) | assumption | (refine Or.inl ?_; repeat' first | assumption | exact hu_s | refine hu_o (by assumption) ?_ | refine (hu_n (by first | assumption | exact Ne.symm (by assumption) | exact ne_o (by assumption) (by assumption) | exact Ne.symm (ne_o (by assumption) (by assumption)))).trans ?_)) (by rfl) ?_
  exact r_ireturn dJ2_size_4 rfl (by first | rfl | exact bi_nar) (by first | exact ⟨rfl, rfl⟩ | rfl)

set_option maxHeartbeats 4000000 in
set_option maxRecDepth 100000 in
theorem sp_J15_checkIndexN {G : GG} {h : HP} {i n : Int32} (h0 : 0 ≤ i.toInt) (h1 : i.toInt < n.toInt) : Ct G 0 0 M_J15_checkIndex [.int i, .int n, .null] h (eQ (some (.int i)) h) := by
  refine ct_intro my_J15_checkIndex (Nat.le_of_ble_eq_true rfl) ?_
  refine r_iload_n dJ15_checkIndex_0 rfl ?_
  refine r_if_lt 9 dJ15_checkIndex_1 rfl (fun c1 => absurd c1 (by intro hq; simp only [i32_eq, Int32.lt_iff_toInt_lt, Int32.le_iff_toInt_le, tI_add, tI_sub, tI_mul, tI_neg, Int32.reduceToInt] at hq; omega)) (fun c1 => ?_)
  refine r_iload_n dJ15_checkIndex_4 rfl ?_
  refine r_iload_n dJ15_checkIndex_5 rfl ?_
  refine r_icmp_lt 16 dJ15_checkIndex_6 rfl (fun c6 => ?_) (fun c6 => absurd c6 (by intro hq; simp only [i32_eq, Int32.lt_iff_toInt_lt, Int32.le_iff_toInt_le, tI_add, tI_sub, tI_mul, tI_neg, Int32.reduceToInt] at hq; omega))
  refine r_iload_n dJ15_checkIndex_16 rfl ?_
  exact r_ireturn dJ15_checkIndex_17 rfl (by first | rfl | exact bi_nar) (by first | exact ⟨rfl, rfl⟩ | rfl)

set_option maxHeartbeats 4000000 in
set_option maxRecDepth 100000 in
theorem sp_J15_checkIndexR {G : GG} {h : HP} {i n : Int32} {x : Nat} (h0 : 0 ≤ i.toInt) (h1 : i.toInt < n.toInt) : Ct G 0 0 M_J15_checkIndex [.int i, .int n, .ref x] h (eQ (some (.int i)) h) := by
  refine ct_intro my_J15_checkIndex (Nat.le_of_ble_eq_true rfl) ?_
  refine r_iload_n dJ15_checkIndex_0 rfl ?_
  refine r_if_lt 9 dJ15_checkIndex_1 rfl (fun c1 => absurd c1 (by intro hq; simp only [i32_eq, Int32.lt_iff_toInt_lt, Int32.le_iff_toInt_le, tI_add, tI_sub, tI_mul, tI_neg, Int32.reduceToInt] at hq; omega)) (fun c1 => ?_)
  refine r_iload_n dJ15_checkIndex_4 rfl ?_
  refine r_iload_n dJ15_checkIndex_5 rfl ?_
  refine r_icmp_lt 16 dJ15_checkIndex_6 rfl (fun c6 => ?_) (fun c6 => absurd c6 (by intro hq; simp only [i32_eq, Int32.lt_iff_toInt_lt, Int32.le_iff_toInt_le, tI_add, tI_sub, tI_mul, tI_neg, Int32.reduceToInt] at hq; omega))
  refine r_iload_n dJ15_checkIndex_16 rfl ?_
  exact r_ireturn dJ15_checkIndex_17 rfl (by first | rfl | exact bi_nar) (by first | exact ⟨rfl, rfl⟩ | rfl)

theorem sp_J15_checkIndex {G : GG} {h : HP} {i n : Int32} {x : Option Nat} (h0 : 0 ≤ i.toInt) (h1 : i.toInt < n.toInt) : Ct G 0 0 M_J15_checkIndex [.int i, .int n, va_rf x] h (eQ (some (.int i)) h) := by
  cases x
  · exact sp_J15_checkIndexN h0 h1
  · exact sp_J15_checkIndexR h0 h1
set_option maxHeartbeats 4000000 in
set_option maxRecDepth 100000 in
theorem sp_J14_checkIndex {G : GG} {h : HP} {i n : Int32} (h0 : 0 ≤ i.toInt) (h1 : i.toInt < n.toInt) : Ct G 1 0 M_J14_checkIndex [.int i, .int n] h (eQ (some (.int i)) h) := by
  refine ct_intro my_J14_checkIndex (Nat.le_of_ble_eq_true rfl) ?_
  refine r_iload_n dJ14_checkIndex_0 rfl ?_
  refine r_iload_n dJ14_checkIndex_1 rfl ?_
  refine r_null dJ14_checkIndex_2 ?_
  refine r_invS dJ14_checkIndex_3 (sp_J15_checkIndexN h0 h1) rfl mo_J15_checkIndex (lkA q447) (lkA q448) (lkA q84) mp_J15_checkIndex (Nat.le_of_ble_eq_true rfl) (Nat.le_of_ble_eq_true rfl) (Nat.le_of_ble_eq_true rfl) (kr_e ?_) kx_e
  exact r_ireturn dJ14_checkIndex_6 rfl (by first | rfl | exact bi_nar) (by first | exact ⟨rfl, rfl⟩ | rfl)

set_option maxHeartbeats 4000000 in
set_option maxRecDepth 100000 in
theorem sp_J2_elementData {G : GG} {h : HP} {a r N j x : Nat} {mc n i : Int32} {f : Nat → Option Nat} (hl : h a = some (bO 10 [.int mc, .ref r, .int n])) (hr : h r = some (bR 3 N f)) (hj : i.toInt = (j : Int)) (hjN : j < N) (hv : f j = some x) : Ct G 0 0 M_J2_elementData [.ref a, .int i] h (eQ (some (.ref x)) h) := by
  refine ct_intro my_J2_elementData (Nat.le_of_ble_eq_true rfl) ?_
  first | refine r_aload_n dJ2_elementData_0 rfl ?_ | refine r_aload_nq dJ2_elementData_0 rfl ?_ | refine r_aload_nN dJ2_elementData_0 rfl ?_
  refine r_getfield 10 1 dJ2_elementData_1 rfl (Nat.le_of_ble_eq_true rfl) (lkA q136) (Or.inl rfl) (by first | exact Or.inl (by assumption) | assumption | (refine Or.inl ?_; repeat' first | assumption | exact hu_s | refine hu_o (by assumption) ?_ | refine (hu_n (by first | assumption | exact Ne.symm (by assumption) | exact ne_o (by assumption) (by assumption) | exact Ne.symm (ne_o (by assumption) (by assumption)))).trans ?_)) (by rfl) ?_
  refine r_iload_n dJ2_elementData_4 rfl ?_
  refine r_aaload (j) (Or.inl rfl) dJ2_elementData_5 (by first | exact Or.inl (by assumption) | assumption | (refine Or.inl ?_; repeat' first | assumption | exact hu_s | refine hu_o (by assumption) ?_ | refine (hu_n (by first | assumption | exact Ne.symm (by assumption) | exact ne_o (by assumption) (by assumption) | exact Ne.symm (ne_o (by assumption) (by assumption)))).trans ?_)) hj hjN hv ?_
  first | exact r_areturn dJ2_elementData_6 rfl rfl (by first | exact ⟨rfl, rfl⟩ | rfl) | exact r_areturnq dJ2_elementData_6 rfl rfl (by first | exact ⟨rfl, rfl⟩ | rfl) | exact r_areturnN dJ2_elementData_6 rfl rfl (by first | exact ⟨rfl, rfl⟩ | rfl)

set_option maxHeartbeats 4000000 in
set_option maxRecDepth 100000 in
theorem sp_J2_get {G : GG} {h : HP} {a r N j x : Nat} {mc n i : Int32} {f : Nat → Option Nat} (hl : h a = some (bO 10 [.int mc, .ref r, .int n])) (hr : h r = some (bR 3 N f)) (hj : i.toInt = (j : Int)) (hjn : (j : Int) < n.toInt) (hjN : j < N) (hv : f j = some x) : Ct G 2 0 M_J2_get [.ref a, .int i] h (eQ (some (.ref x)) h) := by
  refine ct_intro my_J2_get (Nat.le_of_ble_eq_true rfl) ?_
  refine r_iload_n dJ2_get_0 rfl ?_
  first | refine r_aload_n dJ2_get_1 rfl ?_ | refine r_aload_nq dJ2_get_1 rfl ?_ | refine r_aload_nN dJ2_get_1 rfl ?_
  refine r_getfield 10 2 dJ2_get_2 rfl (Nat.le_of_ble_eq_true rfl) (lkA q139) (Or.inl rfl) (by first | exact Or.inl (by assumption) | assumption | (refine Or.inl ?_; repeat' first | assumption | exact hu_s | refine hu_o (by assumption) ?_ | refine (hu_n (by first | assumption | exact Ne.symm (by assumption) | exact ne_o (by assumption) (by assumption) | exact Ne.symm (ne_o (by assumption) (by assumption)))).trans ?_)) (by rfl) ?_
  refine r_invS dJ2_get_5 (sp_J14_checkIndex (by omega) (by omega)) rfl mo_J14_checkIndex (lkA q444) (lkA q445) (lkA q83) mp_J14_checkIndex (Nat.le_of_ble_eq_true rfl) (Nat.le_of_ble_eq_true rfl) (Nat.le_of_ble_eq_true rfl) (kr_e ?_) kx_e
  refine r_pop dJ2_get_8 rfl ?_
  first | refine r_aload_n dJ2_get_9 rfl ?_ | refine r_aload_nq dJ2_get_9 rfl ?_ | refine r_aload_nN dJ2_get_9 rfl ?_
  refine r_iload_n dJ2_get_10 rfl ?_
  refine r_invV dJ2_get_11 (sp_J2_elementData hl hr hj hjN hv) rfl mo_J2_elementData (by first | exact Or.inl (by assumption) | assumption | (refine Or.inl ?_; repeat' first | assumption | exact hu_s | refine hu_o (by assumption) ?_ | refine (hu_n (by first | assumption | exact Ne.symm (by assumption) | exact ne_o (by assumption) (by assumption) | exact Ne.symm (ne_o (by assumption) (by assumption)))).trans ?_)) rfl (lkA q450) (lkA q451) (lkA q452) rfl (lkA q68) mp_J2_elementData (Nat.le_of_ble_eq_true rfl) (Nat.le_of_ble_eq_true rfl) (Nat.le_of_ble_eq_true rfl) (kr_e ?_) kx_e
  first | exact r_areturn dJ2_get_14 rfl rfl (by first | exact ⟨rfl, rfl⟩ | rfl) | exact r_areturnq dJ2_get_14 rfl rfl (by first | exact ⟨rfl, rfl⟩ | rfl) | exact r_areturnN dJ2_get_14 rfl rfl (by first | exact ⟨rfl, rfl⟩ | rfl)

set_option maxHeartbeats 4000000 in
set_option maxRecDepth 100000 in
theorem sp_J2_set {G : GG} {h : HP} {a r N j x : Nat} {mc n i : Int32} {f : Nat → Option Nat} (hl : h a = some (bO 10 [.int mc, .ref r, .int n])) (hr : h r = some (bR 3 N f)) (hj : i.toInt = (j : Int)) (hjn : (j : Int) < n.toInt) (hjN : j < N) (hv : f j = some x) {v ci : Nat} {fs : List Value} {rr : vw_C} (hv9 : h v = some (bO ci fs)) (hrr : kCl[ci]? = some rr) (hca : rr.1 = "java/lang/Object" ∨ lk (.castable rr.1 "java/lang/Object")) : Ct G 2 0 M_J2_set [.ref a, .int i, .ref v] h (eQ (some (.ref x)) (hu h r (bR 3 N (va_up f j (some v))))) := by
  refine ct_intro my_J2_set (Nat.le_of_ble_eq_true rfl) ?_
  refine r_iload_n dJ2_set_0 rfl ?_
  first | refine r_aload_n dJ2_set_1 rfl ?_ | refine r_aload_nq dJ2_set_1 rfl ?_ | refine r_aload_nN dJ2_set_1 rfl ?_
  refine r_getfield 10 2 dJ2_set_2 rfl (Nat.le_of_ble_eq_true rfl) (lkA q139) (Or.inl rfl) (by first | exact Or.inl (by assumption) | assumption | (refine Or.inl ?_; repeat' first | assumption | exact hu_s | refine hu_o (by assumption) ?_ | refine (hu_n (by first | assumption | exact Ne.symm (by assumption) | exact ne_o (by assumption) (by assumption) | exact Ne.symm (ne_o (by assumption) (by assumption)))).trans ?_)) (by rfl) ?_
  refine r_invS dJ2_set_5 (sp_J14_checkIndex (by omega) (by omega)) rfl mo_J14_checkIndex (lkA q444) (lkA q445) (lkA q83) mp_J14_checkIndex (Nat.le_of_ble_eq_true rfl) (Nat.le_of_ble_eq_true rfl) (Nat.le_of_ble_eq_true rfl) (kr_e ?_) kx_e
  refine r_pop dJ2_set_8 rfl ?_
  first | refine r_aload_n dJ2_set_9 rfl ?_ | refine r_aload_nq dJ2_set_9 rfl ?_ | refine r_aload_nN dJ2_set_9 rfl ?_
  refine r_iload_n dJ2_set_10 rfl ?_
  refine r_invV dJ2_set_11 (sp_J2_elementData hl hr hj hjN hv) rfl mo_J2_elementData (by first | exact Or.inl (by assumption) | assumption | (refine Or.inl ?_; repeat' first | assumption | exact hu_s | refine hu_o (by assumption) ?_ | refine (hu_n (by first | assumption | exact Ne.symm (by assumption) | exact ne_o (by assumption) (by assumption) | exact Ne.symm (ne_o (by assumption) (by assumption)))).trans ?_)) rfl (lkA q450) (lkA q451) (lkA q452) rfl (lkA q68) mp_J2_elementData (Nat.le_of_ble_eq_true rfl) (Nat.le_of_ble_eq_true rfl) (Nat.le_of_ble_eq_true rfl) (kr_e ?_) kx_e
  first | refine r_astore_n dJ2_set_14 (Nat.le_of_ble_eq_true rfl) ?_ | refine r_astore_nq dJ2_set_14 (Nat.le_of_ble_eq_true rfl) ?_ | refine r_astore_nN dJ2_set_14 (Nat.le_of_ble_eq_true rfl) ?_
  first | refine r_aload_n dJ2_set_15 rfl ?_ | refine r_aload_nq dJ2_set_15 rfl ?_ | refine r_aload_nN dJ2_set_15 rfl ?_
  refine r_getfield 10 1 dJ2_set_16 rfl (Nat.le_of_ble_eq_true rfl) (lkA q136) (Or.inl rfl) (by first | exact Or.inl (by assumption) | assumption | (refine Or.inl ?_; repeat' first | assumption | exact hu_s | refine hu_o (by assumption) ?_ | refine (hu_n (by first | assumption | exact Ne.symm (by assumption) | exact ne_o (by assumption) (by assumption) | exact Ne.symm (ne_o (by assumption) (by assumption)))).trans ?_)) (by rfl) ?_
  refine r_iload_n dJ2_set_19 rfl ?_
  first | refine r_aload_n dJ2_set_20 rfl ?_ | refine r_aload_nq dJ2_set_20 rfl ?_ | refine r_aload_nN dJ2_set_20 rfl ?_
  refine r_aastore (t := 3) j (by decide) rfl dJ2_set_21 hr (Or.inl hv9) hrr hca hj hjN ?_
  first | refine r_aload_n dJ2_set_22 rfl ?_ | refine r_aload_nq dJ2_set_22 rfl ?_ | refine r_aload_nN dJ2_set_22 rfl ?_
  first | exact r_areturn dJ2_set_23 rfl rfl (by first | exact ⟨rfl, rfl⟩ | rfl) | exact r_areturnq dJ2_set_23 rfl rfl (by first | exact ⟨rfl, rfl⟩ | rfl) | exact r_areturnN dJ2_set_23 rfl rfl (by first | exact ⟨rfl, rfl⟩ | rfl)

set_option maxHeartbeats 4000000 in
set_option maxRecDepth 100000 in
theorem sp_J2_add_2 {G : GG} {h : HP} {a r N j : Nat} {mc n : Int32} {f : Nat → Option Nat} (hl : h a = some (bO 10 [.int mc, .ref r, .int n])) (hr : h r = some (bR 3 N f)) (hj : n.toInt = (j : Int)) (hjN : j < N) (hN : N < 1000) {v ci : Nat} {fs : List Value} {rr : vw_C} (hv9 : h v = some (bO ci fs)) (hrr : kCl[ci]? = some rr) (hca : rr.1 = "java/lang/Object" ∨ lk (.castable rr.1 "java/lang/Object")) : Ct G 0 0 M_J2_add_2 [.ref a, .ref v, .ref r, .int n] h (eQ none (hu (hu h r (bR 3 N (va_up f j (some v)))) a (bO 10 [.int mc, .ref r, .int (n + 1)]))) := by
  refine ct_intro my_J2_add_2 (Nat.le_of_ble_eq_true rfl) ?_
  refine r_iload_n dJ2_add_2_0 rfl ?_
  first | refine r_aload_n dJ2_add_2_1 rfl ?_ | refine r_aload_nq dJ2_add_2_1 rfl ?_ | refine r_aload_nN dJ2_add_2_1 rfl ?_
  refine r_alenR _ (Nat.le_of_ble_eq_true rfl) dJ2_add_2_2 (by first | exact Or.inl (by assumption) | assumption | (refine Or.inl ?_; repeat' first | assumption | exact hu_s | refine hu_o (by assumption) ?_ | refine (hu_n (by first | assumption | exact Ne.symm (by assumption) | exact ne_o (by assumption) (by assumption) | exact Ne.symm (ne_o (by assumption) (by assumption)))).trans ?_)) rfl ?_
  refine r_icmp_ne 11 dJ2_add_2_3 rfl (fun c3 => ?_) (fun c3 => absurd c3 (by intro hq; rw [hq] at hj; rw [nI_toInt (by omega)] at hj; omega))
  first | refine r_aload_n dJ2_add_2_11 rfl ?_ | refine r_aload_nq dJ2_add_2_11 rfl ?_ | refine r_aload_nN dJ2_add_2_11 rfl ?_
  refine r_iload_n dJ2_add_2_12 rfl ?_
  first | refine r_aload_n dJ2_add_2_13 rfl ?_ | refine r_aload_nq dJ2_add_2_13 rfl ?_ | refine r_aload_nN dJ2_add_2_13 rfl ?_
  refine r_aastore (t := 3) j (by decide) rfl dJ2_add_2_14 hr (Or.inl hv9) hrr hca hj hjN ?_
  first | refine r_aload_n dJ2_add_2_15 rfl ?_ | refine r_aload_nq dJ2_add_2_15 rfl ?_ | refine r_aload_nN dJ2_add_2_15 rfl ?_
  refine r_iload_n dJ2_add_2_16 rfl ?_
  refine r_iconst (v := 1) dJ2_add_2_17 rfl ?_
  refine r_iadd dJ2_add_2_18 ?_
  refine r_put 10 2 dJ2_add_2_19 rfl (Nat.le_of_ble_eq_true rfl) (lkA q139) (Or.inl rfl) rfl ((hu_n (ne_b hr hl (fun e => by cases e))).trans hl) (by dsimp only [List.set]) (Nat.le_of_ble_eq_true rfl) rfl rfl (by first | exact hu_hu | exact rfl) ?_
  exact r_return dJ2_add_2_22 rfl (by first | exact ⟨rfl, rfl⟩ | rfl)

set_option maxHeartbeats 4000000 in
set_option maxRecDepth 100000 in
theorem sp_J2_add {G : GG} {h : HP} {a r N j : Nat} {mc n : Int32} {f : Nat → Option Nat} (hl : h a = some (bO 10 [.int mc, .ref r, .int n])) (hr : h r = some (bR 3 N f)) (hj : n.toInt = (j : Int)) (hjN : j < N) (hN : N < 1000) {v ci : Nat} {fs : List Value} {rr : vw_C} (hv9 : h v = some (bO ci fs)) (hrr : kCl[ci]? = some rr) (hca : rr.1 = "java/lang/Object" ∨ lk (.castable rr.1 "java/lang/Object")) (hva : v ≠ a) : Ct G 1 0 M_J2_add [.ref a, .ref v] h (eQ (some (.int 1)) (hu (hu h r (bR 3 N (va_up f j (some v)))) a (bO 10 [.int (mc + 1), .ref r, .int (n + 1)]))) := by
  refine ct_intro my_J2_add (Nat.le_of_ble_eq_true rfl) ?_
  first | refine r_aload_n dJ2_add_0 rfl ?_ | refine r_aload_nq dJ2_add_0 rfl ?_ | refine r_aload_nN dJ2_add_0 rfl ?_
  refine r_dup dJ2_add_1 rfl ?_
  refine r_getfield 10 0 dJ2_add_2 rfl (Nat.le_of_ble_eq_true rfl) (lkA q147) (Or.inr (lkA q144)) (by first | exact Or.inl (by assumption) | assumption | (refine Or.inl ?_; repeat' first | assumption | exact hu_s | refine hu_o (by assumption) ?_ | refine (hu_n (by first | assumption | exact Ne.symm (by assumption) | exact ne_o (by assumption) (by assumption) | exact Ne.symm (ne_o (by assumption) (by assumption)))).trans ?_)) (by rfl) ?_
  refine r_iconst (v := 1) dJ2_add_5 rfl ?_
  refine r_iadd dJ2_add_6 ?_
  refine r_put 10 0 dJ2_add_7 rfl (Nat.le_of_ble_eq_true rfl) (lkA q147) (Or.inr (lkA q144)) rfl (by repeat' first | assumption | exact hu_s | refine hu_o (by assumption) ?_ | refine (hu_n (by first | assumption | exact Ne.symm (by assumption) | exact ne_o (by assumption) (by assumption) | exact Ne.symm (ne_o (by assumption) (by assumption)))).trans ?_) (by dsimp only [List.set]) (Nat.le_of_ble_eq_true rfl) rfl rfl (by first | exact hu_hu | exact rfl) ?_
  first | refine r_aload_n dJ2_add_10 rfl ?_ | refine r_aload_nq dJ2_add_10 rfl ?_ | refine r_aload_nN dJ2_add_10 rfl ?_
  first | refine r_aload_n dJ2_add_11 rfl ?_ | refine r_aload_nq dJ2_add_11 rfl ?_ | refine r_aload_nN dJ2_add_11 rfl ?_
  first | refine r_aload_n dJ2_add_12 rfl ?_ | refine r_aload_nq dJ2_add_12 rfl ?_ | refine r_aload_nN dJ2_add_12 rfl ?_
  refine r_getfield 10 1 dJ2_add_13 rfl (Nat.le_of_ble_eq_true rfl) (lkA q136) (Or.inl rfl) (by first | exact Or.inl (by assumption) | assumption | (refine Or.inl ?_; repeat' first | assumption | exact hu_s | refine hu_o (by assumption) ?_ | refine (hu_n (by first | assumption | exact Ne.symm (by assumption) | exact ne_o (by assumption) (by assumption) | exact Ne.symm (ne_o (by assumption) (by assumption)))).trans ?_)) (by rfl) ?_
  first | refine r_aload_n dJ2_add_16 rfl ?_ | refine r_aload_nq dJ2_add_16 rfl ?_ | refine r_aload_nN dJ2_add_16 rfl ?_
  refine r_getfield 10 2 dJ2_add_17 rfl (Nat.le_of_ble_eq_true rfl) (lkA q139) (Or.inl rfl) (by first | exact Or.inl (by assumption) | assumption | (refine Or.inl ?_; repeat' first | assumption | exact hu_s | refine hu_o (by assumption) ?_ | refine (hu_n (by first | assumption | exact Ne.symm (by assumption) | exact ne_o (by assumption) (by assumption) | exact Ne.symm (ne_o (by assumption) (by assumption)))).trans ?_)) (by rfl) ?_
  refine r_invV dJ2_add_20 (sp_J2_add_2 hu_s ((hu_n (Ne.symm (ne_b hr hl (fun e => by cases e)))).trans hr) hj hjN hN ((hu_n hva).trans hv9) hrr hca) rfl mo_J2_add_2 (by first | exact Or.inl (by assumption) | assumption | (refine Or.inl ?_; repeat' first | assumption | exact hu_s | refine hu_o (by assumption) ?_ | refine (hu_n (by first | assumption | exact Ne.symm (by assumption) | exact ne_o (by assumption) (by assumption) | exact Ne.symm (ne_o (by assumption) (by assumption)))).trans ?_)) rfl (lkA q230) (lkA q232) (lkA qs1) rfl (lkA q68) mp_J2_add_2 (Nat.le_of_ble_eq_true rfl) (Nat.le_of_ble_eq_true rfl) (Nat.le_of_ble_eq_true rfl) (kr_e ?_) kx_e
  refine r_iconst (v := 1) dJ2_add_23 rfl ?_
  exact r_ireturn dJ2_add_24 rfl (by first | rfl | exact bi_nar) ⟨rfl, by rw [hu_c (ne_b hr hl (fun e => by cases e)), hu_hu]⟩

set_option maxHeartbeats 4000000 in
set_option maxRecDepth 100000 in
theorem sp_J2_init {G : GG} {h : HP} {a : Nat} {n : Int32} {x0 x1 x2 : Value} (N : Nat) (ha : h a = some (bO 10 [x0, x1, x2])) (hn : n.toInt = (N : Int)) (h0 : 0 < N) (h1 : N ≤ 1000) (h2 : x2 = .int 0) : Ct G 3 1001 M_J2_init [.ref a, .int n] h (rQ (fun v h' => v = none ∧ ∃ q, h q = none ∧ q ≠ a ∧ h' = hu (hu h q (bR 3 N (fun _ => none))) a (bO 10 [.int 0, .ref q, .int 0]))) := by
  refine ct_intro my_J2_init (Nat.le_of_ble_eq_true rfl) ?_
  subst h2
  first | refine r_aload_n dJ2_init_0 rfl ?_ | refine r_aload_nq dJ2_init_0 rfl ?_ | refine r_aload_nN dJ2_init_0 rfl ?_
  refine r_invI dJ2_init_1 (sp_J1_init (by assumption)) rfl mo_J1_init (lkA q125) (lkA q126) rfl rfl rfl (lkA q67) mp_J1_init (Nat.le_of_ble_eq_true rfl) (Nat.le_of_ble_eq_true rfl) (Nat.le_of_ble_eq_true rfl) (kr_e ?_) kx_e
  try simp only [hu_hu]
  refine r_iload_n dJ2_init_4 rfl ?_
  refine r_if_le 19 dJ2_init_5 rfl (fun c5 => absurd c5 (by intro hq; rw [Int32.le_iff_toInt_le] at hq; have : (0 : Int32).toInt = 0 := rfl; omega)) (fun c5 => ?_)
  first | refine r_aload_n dJ2_init_8 rfl ?_ | refine r_aload_nq dJ2_init_8 rfl ?_ | refine r_aload_nN dJ2_init_8 rfl ?_
  refine r_iload_n dJ2_init_9 rfl ?_
  refine r_newaR (t := 3) N (Nat.le_of_ble_eq_true rfl) rfl dJ2_init_10 (lkA q132) (lkT q133 rfl) hn (by omega) (by omega) (fun q10 hq10 => ?_)
  refine r_put 10 1 dJ2_init_13 rfl (Nat.le_of_ble_eq_true rfl) (lkA q136) (Or.inl rfl) rfl (by repeat' first | assumption | exact hu_s | refine hu_o (by assumption) ?_ | refine (hu_n (by first | assumption | exact Ne.symm (by assumption) | exact ne_o (by assumption) (by assumption) | exact Ne.symm (ne_o (by assumption) (by assumption)))).trans ?_) (by dsimp only [List.set]) (Nat.le_of_ble_eq_true rfl) rfl rfl (by first | exact hu_hu | exact rfl) ?_
  refine r_goto 60 dJ2_init_16 rfl ?_
  exact r_return dJ2_init_60 rfl ⟨rfl, q10, (ov_none_hu hq10).2, (ov_none_hu hq10).1, by rw [hu_c (Ne.symm (ov_none_hu hq10).1), hu_hu]⟩

