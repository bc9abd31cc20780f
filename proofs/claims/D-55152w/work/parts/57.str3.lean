set_option maxRecDepth 100000
def digs (v : Nat) : List Int32 := if v < 10 then [48 + nI v] else if v < 100 then [48 + nI (v / 10), 48 + nI (v % 10)] else [49, 48, 48]
theorem digs_1 {v : Nat} (h : v < 10) : digs v = [48 + nI v] := if_pos h
theorem digs_2 {v : Nat} (h : 10 ≤ v) (h2 : v < 100) : digs v = [48 + nI (v / 10), 48 + nI (v % 10)] := by
  unfold digs
  rw [if_neg (by omega), if_pos h2]
theorem digs_3 : digs 100 = [49, 48, 48] := rfl
theorem asc_d {j : Nat} (h : j < 10) : asc (48 + nI j) := by
  have e : (48 + nI j).toInt = 48 + (j : Int) := by
    rw [tI_add, nIn (by omega)]
    have h0 : (48 : Int32).toInt = 48 := rfl
    rw [h0, if_pos (by omega)]
  unfold asc
  omega
theorem digs_a {v : Nat} (h : v ≤ 100) : ∀ j, j < (digs v).length → asc ((digs v).getD j 0) := by
  intro j hj
  by_cases a : v < 10
  · rw [digs_1 a] at hj ⊢
    obtain rfl : j = 0 := by have : j < 1 := hj; omega
    exact asc_d a
  · by_cases b : v < 100
    · rw [digs_2 (by omega) b] at hj ⊢
      have hj2 : j < 2 := hj
      rcases (show j = 0 ∨ j = 1 by omega) with rfl | rfl
      · exact asc_d (j := v / 10) (by omega)
      · exact asc_d (j := v % 10) (by omega)
    · obtain rfl : v = 100 := by omega
      have hj2 : j < 3 := hj
      rcases (show j = 0 ∨ j = 1 ∨ j = 2 by omega) with rfl | rfl | rfl <;> decide
theorem digs_l {v : Nat} : 1 ≤ (digs v).length ∧ (digs v).length ≤ 3 := by
  unfold digs
  by_cases a : v < 10
  · rw [if_pos a]; exact ⟨Nat.le_refl 1, Nat.le_of_ble_eq_true rfl⟩
  · rw [if_neg a]
    by_cases b : v < 100
    · rw [if_pos b]; exact ⟨Nat.le_of_ble_eq_true rfl, Nat.le_of_ble_eq_true rfl⟩
    · rw [if_neg b]; exact ⟨by decide, by decide⟩
theorem neg_v {v : Nat} (h : v < 1000) : (-(nI v)).toInt = -(v : Int) := by
  rw [tI_neg, nIn h, if_pos (by omega)]
theorem neg_n {v : Nat} (h : v < 1000) : (-(-(nI v))).toInt = (v : Int) := by
  rw [tI_neg, neg_v h, if_pos (by omega)]
  omega
set_option maxHeartbeats 4000000 in
set_option maxRecDepth 100000 in
theorem sp_size_1 {G : GG} {h : HP} {v : Nat} (hv9 : v < 10) : Ct G 0 0 M_J27_stringSize [.int (nI v)] h (eQ (some (.int 1)) h) := by
  refine ct_intro my_J27_stringSize (Nat.le_of_ble_eq_true rfl) ?_
  refine r_iconst (v := 1) dJ27_stringSize_0 rfl ?_
  refine r_istore_n dJ27_stringSize_1 (Nat.le_of_ble_eq_true rfl) ?_
  refine r_iload_n dJ27_stringSize_2 rfl ?_
  refine r_if_lt 11 dJ27_stringSize_3 rfl (fun c3 => absurd c3 (by rw [Int32.lt_iff_toInt_lt, nIn (by omega)]; have h0 : (0 : Int32).toInt = 0 := rfl; omega)) (fun c3 => ?_)
  refine r_iconst (v := 0) dJ27_stringSize_6 rfl ?_
  refine r_istore_n dJ27_stringSize_7 (Nat.le_of_ble_eq_true rfl) ?_
  refine r_iload_n dJ27_stringSize_8 rfl ?_
  refine r_ineg dJ27_stringSize_9 ?_
  refine r_istore_n dJ27_stringSize_10 (Nat.le_of_ble_eq_true rfl) ?_
  refine r_bipush (v := (-10)) dJ27_stringSize_11 rfl ?_
  refine r_istore_n dJ27_stringSize_13 (Nat.le_of_ble_eq_true rfl) ?_
  refine r_iconst (v := 1) dJ27_stringSize_14 rfl ?_
  refine r_istore_n dJ27_stringSize_15 (Nat.le_of_ble_eq_true rfl) ?_
  refine r_iload_n dJ27_stringSize_16 rfl ?_
  refine r_bipush (v := 10) dJ27_stringSize_17 rfl ?_
  refine r_icmp_ge 42 dJ27_stringSize_19 rfl (fun c19 => absurd c19 (by decide)) (fun c19 => ?_)
  refine r_iload_n dJ27_stringSize_22 rfl ?_
  refine r_iload_n dJ27_stringSize_23 rfl ?_
  refine r_icmp_le 31 dJ27_stringSize_24 rfl (fun c24 => absurd c24 (by rw [Int32.le_iff_toInt_le, neg_v (by omega)]; have h0 : (-10 : Int32).toInt = -10 := rfl; omega)) (fun c24 => ?_)
  refine r_iload_n dJ27_stringSize_27 rfl ?_
  refine r_iload_n dJ27_stringSize_28 rfl ?_
  refine r_iadd dJ27_stringSize_29 ?_
  exact r_ireturn dJ27_stringSize_30 rfl (by first | rfl | exact bi_nar) ⟨congrArg (fun z => some (Value.int z)) (by decide), rfl⟩

set_option maxHeartbeats 4000000 in
set_option maxRecDepth 100000 in
theorem sp_size_2 {G : GG} {h : HP} {v : Nat} (h1 : 10 ≤ v) (hv9 : v < 100) : Ct G 0 0 M_J27_stringSize [.int (nI v)] h (eQ (some (.int 2)) h) := by
  refine ct_intro my_J27_stringSize (Nat.le_of_ble_eq_true rfl) ?_
  refine r_iconst (v := 1) dJ27_stringSize_0 rfl ?_
  refine r_istore_n dJ27_stringSize_1 (Nat.le_of_ble_eq_true rfl) ?_
  refine r_iload_n dJ27_stringSize_2 rfl ?_
  refine r_if_lt 11 dJ27_stringSize_3 rfl (fun c3 => absurd c3 (by rw [Int32.lt_iff_toInt_lt, nIn (by omega)]; have h0 : (0 : Int32).toInt = 0 := rfl; omega)) (fun c3 => ?_)
  refine r_iconst (v := 0) dJ27_stringSize_6 rfl ?_
  refine r_istore_n dJ27_stringSize_7 (Nat.le_of_ble_eq_true rfl) ?_
  refine r_iload_n dJ27_stringSize_8 rfl ?_
  refine r_ineg dJ27_stringSize_9 ?_
  refine r_istore_n dJ27_stringSize_10 (Nat.le_of_ble_eq_true rfl) ?_
  refine r_bipush (v := (-10)) dJ27_stringSize_11 rfl ?_
  refine r_istore_n dJ27_stringSize_13 (Nat.le_of_ble_eq_true rfl) ?_
  refine r_iconst (v := 1) dJ27_stringSize_14 rfl ?_
  refine r_istore_n dJ27_stringSize_15 (Nat.le_of_ble_eq_true rfl) ?_
  refine r_iload_n dJ27_stringSize_16 rfl ?_
  refine r_bipush (v := 10) dJ27_stringSize_17 rfl ?_
  refine r_icmp_ge 42 dJ27_stringSize_19 rfl (fun c19 => absurd c19 (by decide)) (fun c19 => ?_)
  refine r_iload_n dJ27_stringSize_22 rfl ?_
  refine r_iload_n dJ27_stringSize_23 rfl ?_
  refine r_icmp_le 31 dJ27_stringSize_24 rfl (fun c24 => ?_) (fun c24 => absurd c24 (fun e => e (by rw [Int32.le_iff_toInt_le, neg_v (by omega)]; have h0 : (-10 : Int32).toInt = -10 := rfl; omega)))
  refine r_bipush (v := 10) dJ27_stringSize_31 rfl ?_
  refine r_iload_n dJ27_stringSize_33 rfl ?_
  refine r_imul dJ27_stringSize_34 ?_
  refine r_istore_n dJ27_stringSize_35 (Nat.le_of_ble_eq_true rfl) ?_
  refine r_inc 1 dJ27_stringSize_36 rfl rfl (Nat.le_of_ble_eq_true rfl) ?_
  refine r_goto 16 dJ27_stringSize_39 rfl ?_
  refine r_iload_n dJ27_stringSize_16 rfl ?_
  refine r_bipush (v := 10) dJ27_stringSize_17 rfl ?_
  refine r_icmp_ge 42 dJ27_stringSize_19 rfl (fun c19 => absurd c19 (by decide)) (fun c19 => ?_)
  refine r_iload_n dJ27_stringSize_22 rfl ?_
  refine r_iload_n dJ27_stringSize_23 rfl ?_
  refine r_icmp_le 31 dJ27_stringSize_24 rfl (fun c24 => absurd c24 (by rw [Int32.le_iff_toInt_le, neg_v (by omega)]; have h0 : (10 * -10 : Int32).toInt = -100 := rfl; omega)) (fun c24 => ?_)
  refine r_iload_n dJ27_stringSize_27 rfl ?_
  refine r_iload_n dJ27_stringSize_28 rfl ?_
  refine r_iadd dJ27_stringSize_29 ?_
  exact r_ireturn dJ27_stringSize_30 rfl (by first | rfl | exact bi_nar) ⟨congrArg (fun z => some (Value.int z)) (by decide), rfl⟩

set_option maxHeartbeats 4000000 in
set_option maxRecDepth 100000 in
theorem sp_size_3 {G : GG} {h : HP} {v : Nat} (h1 : 100 ≤ v) (hv9 : v ≤ 100) : Ct G 0 0 M_J27_stringSize [.int (nI v)] h (eQ (some (.int 3)) h) := by
  refine ct_intro my_J27_stringSize (Nat.le_of_ble_eq_true rfl) ?_
  refine r_iconst (v := 1) dJ27_stringSize_0 rfl ?_
  refine r_istore_n dJ27_stringSize_1 (Nat.le_of_ble_eq_true rfl) ?_
  refine r_iload_n dJ27_stringSize_2 rfl ?_
  refine r_if_lt 11 dJ27_stringSize_3 rfl (fun c3 => absurd c3 (by rw [Int32.lt_iff_toInt_lt, nIn (by omega)]; have h0 : (0 : Int32).toInt = 0 := rfl; omega)) (fun c3 => ?_)
  refine r_iconst (v := 0) dJ27_stringSize_6 rfl ?_
  refine r_istore_n dJ27_stringSize_7 (Nat.le_of_ble_eq_true rfl) ?_
  refine r_iload_n dJ27_stringSize_8 rfl ?_
  refine r_ineg dJ27_stringSize_9 ?_
  refine r_istore_n dJ27_stringSize_10 (Nat.le_of_ble_eq_true rfl) ?_
  refine r_bipush (v := (-10)) dJ27_stringSize_11 rfl ?_
  refine r_istore_n dJ27_stringSize_13 (Nat.le_of_ble_eq_true rfl) ?_
  refine r_iconst (v := 1) dJ27_stringSize_14 rfl ?_
  refine r_istore_n dJ27_stringSize_15 (Nat.le_of_ble_eq_true rfl) ?_
  refine r_iload_n dJ27_stringSize_16 rfl ?_
  refine r_bipush (v := 10) dJ27_stringSize_17 rfl ?_
  refine r_icmp_ge 42 dJ27_stringSize_19 rfl (fun c19 => absurd c19 (by decide)) (fun c19 => ?_)
  refine r_iload_n dJ27_stringSize_22 rfl ?_
  refine r_iload_n dJ27_stringSize_23 rfl ?_
  refine r_icmp_le 31 dJ27_stringSize_24 rfl (fun c24 => ?_) (fun c24 => absurd c24 (fun e => e (by rw [Int32.le_iff_toInt_le, neg_v (by omega)]; have h0 : (-10 : Int32).toInt = -10 := rfl; omega)))
  refine r_bipush (v := 10) dJ27_stringSize_31 rfl ?_
  refine r_iload_n dJ27_stringSize_33 rfl ?_
  refine r_imul dJ27_stringSize_34 ?_
  refine r_istore_n dJ27_stringSize_35 (Nat.le_of_ble_eq_true rfl) ?_
  refine r_inc 1 dJ27_stringSize_36 rfl rfl (Nat.le_of_ble_eq_true rfl) ?_
  refine r_goto 16 dJ27_stringSize_39 rfl ?_
  refine r_iload_n dJ27_stringSize_16 rfl ?_
  refine r_bipush (v := 10) dJ27_stringSize_17 rfl ?_
  refine r_icmp_ge 42 dJ27_stringSize_19 rfl (fun c19 => absurd c19 (by decide)) (fun c19 => ?_)
  refine r_iload_n dJ27_stringSize_22 rfl ?_
  refine r_iload_n dJ27_stringSize_23 rfl ?_
  refine r_icmp_le 31 dJ27_stringSize_24 rfl (fun c24 => ?_) (fun c24 => absurd c24 (fun e => e (by rw [Int32.le_iff_toInt_le, neg_v (by omega)]; have h0 : (10 * -10 : Int32).toInt = -100 := rfl; omega)))
  refine r_bipush (v := 10) dJ27_stringSize_31 rfl ?_
  refine r_iload_n dJ27_stringSize_33 rfl ?_
  refine r_imul dJ27_stringSize_34 ?_
  refine r_istore_n dJ27_stringSize_35 (Nat.le_of_ble_eq_true rfl) ?_
  refine r_inc 1 dJ27_stringSize_36 rfl rfl (Nat.le_of_ble_eq_true rfl) ?_
  refine r_goto 16 dJ27_stringSize_39 rfl ?_
  refine r_iload_n dJ27_stringSize_16 rfl ?_
  refine r_bipush (v := 10) dJ27_stringSize_17 rfl ?_
  refine r_icmp_ge 42 dJ27_stringSize_19 rfl (fun c19 => absurd c19 (by decide)) (fun c19 => ?_)
  refine r_iload_n dJ27_stringSize_22 rfl ?_
  refine r_iload_n dJ27_stringSize_23 rfl ?_
  refine r_icmp_le 31 dJ27_stringSize_24 rfl (fun c24 => absurd c24 (by rw [Int32.le_iff_toInt_le, neg_v (by omega)]; have h0 : (10 * (10 * -10) : Int32).toInt = -1000 := rfl; omega)) (fun c24 => ?_)
  refine r_iload_n dJ27_stringSize_27 rfl ?_
  refine r_iload_n dJ27_stringSize_28 rfl ?_
  refine r_iadd dJ27_stringSize_29 ?_
  exact r_ireturn dJ27_stringSize_30 rfl (by first | rfl | exact bi_nar) ⟨congrArg (fun z => some (Value.int z)) (by decide), rfl⟩

theorem ix_m1 {n m : Nat} (h : n < 500) : (nI (n + (m + 1)) + -1).toInt = ((n + m : Nat) : Int) ∨ 400 ≤ m := by
  by_cases hm : m < 400
  · refine Or.inl ?_
    have h1 : (-1 : Int32).toInt = -1 := rfl
    rw [tI_add, nIn (by omega), h1, if_pos (by omega)]
    omega
  · exact Or.inr (by omega)
theorem ix_m {n m k : Nat} (h : n < 500) (hm : m < 400) {x : Int32} (hx : x.toInt = ((n + (m + 1) : Nat) : Int)) : (x + -1).toInt = ((n + m : Nat) : Int) := by
  have h1 : (-1 : Int32).toInt = -1 := rfl
  rw [tI_add, hx, h1, if_pos (by omega)]
  omega
set_option maxHeartbeats 4000000 in
set_option maxRecDepth 100000 in
theorem sp_chars_1 {G : GG} {h : HP} (hT : KT G) {v n r N : Nat} {g : Nat → Int32} (hv9 : v < 10) (hr : h r = some (bI 1 N g)) (hn : n < 400) (hN : n + 1 ≤ N)  : Ct G 0 0 M_J27_getChars [.int (nI v), .int (nI (n + 1)), .ref r] h (rQ (fun u h' => (∃ z, u = some (.int z)) ∧ h' = hu h r (bI 1 N (upd g n (48 + nI v))))) := by
  refine ct_intro my_J27_getChars (Nat.le_of_ble_eq_true rfl) ?_
  obtain ⟨a1, hs1, hk1⟩ := hT.2.2.1
  obtain ⟨a2, hs2, hk2⟩ := hT.2.2.2
  refine r_iload_n dJ27_getChars_0 rfl ?_
  refine r_istore dJ27_getChars_1 (Nat.le_of_ble_eq_true rfl) ?_
  refine r_iload_n dJ27_getChars_3 rfl ?_
  refine r_if_ge 11 dJ27_getChars_4 rfl (fun c4 => ?_) (fun c4 => absurd c4 (fun e => e (by rw [Int32.le_iff_toInt_le, nIn (by omega)]; have h0 : (0 : Int32).toInt = 0 := rfl; omega)))
  refine r_iconst (v := 0) dJ27_getChars_11 rfl ?_
  refine r_istore dJ27_getChars_12 (Nat.le_of_ble_eq_true rfl) ?_
  refine r_iload dJ27_getChars_14 rfl ?_
  refine r_if_ne 22 dJ27_getChars_16 rfl (fun c16 => absurd c16 (by decide)) (fun c16 => ?_)
  refine r_iload_n dJ27_getChars_19 rfl ?_
  refine r_ineg dJ27_getChars_20 ?_
  refine r_istore_n dJ27_getChars_21 (Nat.le_of_ble_eq_true rfl) ?_
  refine r_iload_n dJ27_getChars_22 rfl ?_
  refine r_bipush (v := (-100)) dJ27_getChars_23 rfl ?_
  refine r_icmp_gt 72 dJ27_getChars_25 rfl (fun c25 => ?_) (fun c25 => absurd c25 (fun e => e (by rw [Int32.lt_iff_toInt_lt, neg_v (by omega)]; have h0 : (-100 : Int32).toInt = -100 := rfl; omega)))
  first | refine r_aload_n dJ27_getChars_72 rfl ?_ | refine r_aload_nq dJ27_getChars_72 rfl ?_ | refine r_aload_nN dJ27_getChars_72 rfl ?_
  refine r_inc (-1) dJ27_getChars_73 rfl rfl (Nat.le_of_ble_eq_true rfl) ?_
  refine r_iload dJ27_getChars_76 rfl ?_
  refine r_getstatic (C := "java/lang/Integer") dJ27_getChars_78 (lkA q1746) (Or.inl rfl) hs1 ?_
  refine r_iload_n dJ27_getChars_81 rfl ?_
  refine r_ineg dJ27_getChars_82 ?_
  refine r_baload (v) dJ27_getChars_83 (Or.inr hk1) (neg_n (by omega)) (by omega) rfl ?_
  refine r_bastore (n + 0) dJ27_getChars_84 hr (ix_m (n := n) (m := 0) (k := 0) (by omega) (by decide) (nIn (by omega) : (nI (n + 1)).toInt = ((n + 1 : Nat) : Int))) (by omega) ?_
  rw [asc_i2b (show asc (dOnes v) from asc_d (by omega))]
  refine r_iload_n dJ27_getChars_85 rfl ?_
  refine r_bipush (v := (-9)) dJ27_getChars_86 rfl ?_
  refine r_icmp_ge 104 dJ27_getChars_88 rfl (fun c88 => ?_) (fun c88 => absurd c88 (fun e => e (by rw [Int32.le_iff_toInt_le, neg_v (by omega)]; have h0 : (-9 : Int32).toInt = -9 := rfl; omega)))
  refine r_iload dJ27_getChars_104 rfl ?_
  refine r_if_eq 118 dJ27_getChars_106 rfl (fun c106 => ?_) (fun c106 => absurd c106 (fun e => e rfl))
  refine r_iload dJ27_getChars_118 rfl ?_
  exact r_ireturn dJ27_getChars_120 rfl (by first | rfl | exact bi_nar) ⟨⟨_, rfl⟩, by rw [show dOnes v = 48 + nI v from by unfold dOnes; rw [Nat.mod_eq_of_lt hv9]]; rfl⟩

set_option maxHeartbeats 4000000 in
set_option maxRecDepth 100000 in
theorem sp_chars_2 {G : GG} {h : HP} (hT : KT G) {v n r N : Nat} {g : Nat → Int32} (h1 : 10 ≤ v) (hv9 : v < 100) (hr : h r = some (bI 1 N g)) (hn : n < 400) (hN : n + 2 ≤ N)  : Ct G 0 0 M_J27_getChars [.int (nI v), .int (nI (n + 2)), .ref r] h (rQ (fun u h' => (∃ z, u = some (.int z)) ∧ h' = hu h r (bI 1 N (upd (upd g (n + 1) (48 + nI (v % 10))) n (48 + nI (v / 10)))))) := by
  refine ct_intro my_J27_getChars (Nat.le_of_ble_eq_true rfl) ?_
  obtain ⟨a1, hs1, hk1⟩ := hT.2.2.1
  obtain ⟨a2, hs2, hk2⟩ := hT.2.2.2
  refine r_iload_n dJ27_getChars_0 rfl ?_
  refine r_istore dJ27_getChars_1 (Nat.le_of_ble_eq_true rfl) ?_
  refine r_iload_n dJ27_getChars_3 rfl ?_
  refine r_if_ge 11 dJ27_getChars_4 rfl (fun c4 => ?_) (fun c4 => absurd c4 (fun e => e (by rw [Int32.le_iff_toInt_le, nIn (by omega)]; have h0 : (0 : Int32).toInt = 0 := rfl; omega)))
  refine r_iconst (v := 0) dJ27_getChars_11 rfl ?_
  refine r_istore dJ27_getChars_12 (Nat.le_of_ble_eq_true rfl) ?_
  refine r_iload dJ27_getChars_14 rfl ?_
  refine r_if_ne 22 dJ27_getChars_16 rfl (fun c16 => absurd c16 (by decide)) (fun c16 => ?_)
  refine r_iload_n dJ27_getChars_19 rfl ?_
  refine r_ineg dJ27_getChars_20 ?_
  refine r_istore_n dJ27_getChars_21 (Nat.le_of_ble_eq_true rfl) ?_
  refine r_iload_n dJ27_getChars_22 rfl ?_
  refine r_bipush (v := (-100)) dJ27_getChars_23 rfl ?_
  refine r_icmp_gt 72 dJ27_getChars_25 rfl (fun c25 => ?_) (fun c25 => absurd c25 (fun e => e (by rw [Int32.lt_iff_toInt_lt, neg_v (by omega)]; have h0 : (-100 : Int32).toInt = -100 := rfl; omega)))
  first | refine r_aload_n dJ27_getChars_72 rfl ?_ | refine r_aload_nq dJ27_getChars_72 rfl ?_ | refine r_aload_nN dJ27_getChars_72 rfl ?_
  refine r_inc (-1) dJ27_getChars_73 rfl rfl (Nat.le_of_ble_eq_true rfl) ?_
  refine r_iload dJ27_getChars_76 rfl ?_
  refine r_getstatic (C := "java/lang/Integer") dJ27_getChars_78 (lkA q1746) (Or.inl rfl) hs1 ?_
  refine r_iload_n dJ27_getChars_81 rfl ?_
  refine r_ineg dJ27_getChars_82 ?_
  refine r_baload (v) dJ27_getChars_83 (Or.inr hk1) (neg_n (by omega)) (by omega) rfl ?_
  refine r_bastore (n + 1) dJ27_getChars_84 hr (ix_m (n := n) (m := 1) (k := 0) (by omega) (by decide) (nIn (by omega) : (nI (n + 2)).toInt = ((n + 2 : Nat) : Int))) (by omega) ?_
  rw [asc_i2b (show asc (dOnes v) from asc_d (by omega))]
  refine r_iload_n dJ27_getChars_85 rfl ?_
  refine r_bipush (v := (-9)) dJ27_getChars_86 rfl ?_
  refine r_icmp_ge 104 dJ27_getChars_88 rfl (fun c88 => absurd c88 (by rw [Int32.le_iff_toInt_le, neg_v (by omega)]; have h0 : (-9 : Int32).toInt = -9 := rfl; omega)) (fun c88 => ?_)
  first | refine r_aload_n dJ27_getChars_91 rfl ?_ | refine r_aload_nq dJ27_getChars_91 rfl ?_ | refine r_aload_nN dJ27_getChars_91 rfl ?_
  refine r_inc (-1) dJ27_getChars_92 rfl rfl (Nat.le_of_ble_eq_true rfl) ?_
  refine r_iload dJ27_getChars_95 rfl ?_
  refine r_getstatic (C := "java/lang/Integer") dJ27_getChars_97 (lkA q1748) (Or.inl rfl) hs2 ?_
  refine r_iload_n dJ27_getChars_100 rfl ?_
  refine r_ineg dJ27_getChars_101 ?_
  refine r_baload (v) dJ27_getChars_102 (Or.inr hk2) (neg_n (by omega)) (by omega) rfl ?_
  refine r_bastore (n + 0) dJ27_getChars_103 hu_s (ix_m (n := n) (m := 0) (k := 0) (by omega) (by decide) (ix_m (n := n) (m := 1) (k := 0) (by omega) (by decide) (nIn (by omega) : (nI (n + 2)).toInt = ((n + 2 : Nat) : Int)))) (by omega) ?_
  rw [asc_i2b (show asc (dTens v) from asc_d (by omega)), hu_hu]
  refine r_iload dJ27_getChars_104 rfl ?_
  refine r_if_eq 118 dJ27_getChars_106 rfl (fun c106 => ?_) (fun c106 => absurd c106 (fun e => e rfl))
  refine r_iload dJ27_getChars_118 rfl ?_
  exact r_ireturn dJ27_getChars_120 rfl (by first | rfl | exact bi_nar) ⟨⟨_, rfl⟩, rfl⟩

set_option maxHeartbeats 4000000 in
set_option maxRecDepth 100000 in
theorem sp_chars_3 {G : GG} {h : HP} (hT : KT G) {n r N : Nat} {g : Nat → Int32} (hr : h r = some (bI 1 N g)) (hn : n < 400) (hN : n + 3 ≤ N)  : Ct G 0 0 M_J27_getChars [.int (nI 100), .int (nI (n + 3)), .ref r] h (rQ (fun u h' => (∃ z, u = some (.int z)) ∧ h' = hu h r (bI 1 N (upd (upd (upd g (n + 2) 48) (n + 1) 48) n 49)))) := by
  refine ct_intro my_J27_getChars (Nat.le_of_ble_eq_true rfl) ?_
  obtain ⟨a1, hs1, hk1⟩ := hT.2.2.1
  obtain ⟨a2, hs2, hk2⟩ := hT.2.2.2
  refine r_iload_n dJ27_getChars_0 rfl ?_
  refine r_istore dJ27_getChars_1 (Nat.le_of_ble_eq_true rfl) ?_
  refine r_iload_n dJ27_getChars_3 rfl ?_
  refine r_if_ge 11 dJ27_getChars_4 rfl (fun c4 => ?_) (fun c4 => absurd c4 (by decide))
  refine r_iconst (v := 0) dJ27_getChars_11 rfl ?_
  refine r_istore dJ27_getChars_12 (Nat.le_of_ble_eq_true rfl) ?_
  refine r_iload dJ27_getChars_14 rfl ?_
  refine r_if_ne 22 dJ27_getChars_16 rfl (fun c16 => absurd c16 (by decide)) (fun c16 => ?_)
  refine r_iload_n dJ27_getChars_19 rfl ?_
  refine r_ineg dJ27_getChars_20 ?_
  refine r_istore_n dJ27_getChars_21 (Nat.le_of_ble_eq_true rfl) ?_
  refine r_iload_n dJ27_getChars_22 rfl ?_
  refine r_bipush (v := (-100)) dJ27_getChars_23 rfl ?_
  refine r_icmp_gt 72 dJ27_getChars_25 rfl (fun c25 => absurd c25 (by decide)) (fun c25 => ?_)
  refine r_iload_n dJ27_getChars_28 rfl ?_
  refine r_bipush (v := 100) dJ27_getChars_29 rfl ?_
  refine r_idiv dJ27_getChars_31 (by decide) ?_
  refine r_istore_n dJ27_getChars_32 (Nat.le_of_ble_eq_true rfl) ?_
  refine r_iload_n dJ27_getChars_33 rfl ?_
  refine r_bipush (v := 100) dJ27_getChars_34 rfl ?_
  refine r_imul dJ27_getChars_36 ?_
  refine r_iload_n dJ27_getChars_37 rfl ?_
  refine r_isub dJ27_getChars_38 ?_
  refine r_istore dJ27_getChars_39 (Nat.le_of_ble_eq_true rfl) ?_
  refine r_iload_n dJ27_getChars_41 rfl ?_
  refine r_istore_n dJ27_getChars_42 (Nat.le_of_ble_eq_true rfl) ?_
  first | refine r_aload_n dJ27_getChars_43 rfl ?_ | refine r_aload_nq dJ27_getChars_43 rfl ?_ | refine r_aload_nN dJ27_getChars_43 rfl ?_
  refine r_inc (-1) dJ27_getChars_44 rfl rfl (Nat.le_of_ble_eq_true rfl) ?_
  refine r_iload dJ27_getChars_47 rfl ?_
  refine r_getstatic (C := "java/lang/Integer") dJ27_getChars_49 (lkA q1746) (Or.inl rfl) hs1 ?_
  refine r_iload dJ27_getChars_52 rfl ?_
  refine r_baload (0) dJ27_getChars_54 (Or.inr hk1) (by decide) (by omega) rfl ?_
  refine r_bastore (n + 2) dJ27_getChars_55 hr (ix_m (n := n) (m := 2) (k := 0) (by omega) (by decide) (nIn (by omega) : (nI (n + 3)).toInt = ((n + 3 : Nat) : Int))) (by omega) ?_
  rw [asc_i2b (show asc (dOnes 0) by decide)]
  first | refine r_aload_n dJ27_getChars_56 rfl ?_ | refine r_aload_nq dJ27_getChars_56 rfl ?_ | refine r_aload_nN dJ27_getChars_56 rfl ?_
  refine r_inc (-1) dJ27_getChars_57 rfl rfl (Nat.le_of_ble_eq_true rfl) ?_
  refine r_iload dJ27_getChars_60 rfl ?_
  refine r_getstatic (C := "java/lang/Integer") dJ27_getChars_62 (lkA q1748) (Or.inl rfl) hs2 ?_
  refine r_iload dJ27_getChars_65 rfl ?_
  refine r_baload (0) dJ27_getChars_67 (Or.inr hk2) (by decide) (by omega) rfl ?_
  refine r_bastore (n + 1) dJ27_getChars_68 hu_s (ix_m (n := n) (m := 1) (k := 0) (by omega) (by decide) (ix_m (n := n) (m := 2) (k := 0) (by omega) (by decide) (nIn (by omega) : (nI (n + 3)).toInt = ((n + 3 : Nat) : Int)))) (by omega) ?_
  rw [asc_i2b (show asc (dTens 0) by decide), hu_hu]
  refine r_goto 22 dJ27_getChars_69 rfl ?_
  refine r_iload_n dJ27_getChars_22 rfl ?_
  refine r_bipush (v := (-100)) dJ27_getChars_23 rfl ?_
  refine r_icmp_gt 72 dJ27_getChars_25 rfl (fun c25 => ?_) (fun c25 => absurd c25 (by decide))
  first | refine r_aload_n dJ27_getChars_72 rfl ?_ | refine r_aload_nq dJ27_getChars_72 rfl ?_ | refine r_aload_nN dJ27_getChars_72 rfl ?_
  refine r_inc (-1) dJ27_getChars_73 rfl rfl (Nat.le_of_ble_eq_true rfl) ?_
  refine r_iload dJ27_getChars_76 rfl ?_
  refine r_getstatic (C := "java/lang/Integer") dJ27_getChars_78 (lkA q1746) (Or.inl rfl) hs1 ?_
  refine r_iload_n dJ27_getChars_81 rfl ?_
  refine r_ineg dJ27_getChars_82 ?_
  refine r_baload (1) dJ27_getChars_83 (Or.inr hk1) (by decide) (by omega) rfl ?_
  refine r_bastore (n + 0) dJ27_getChars_84 hu_s (ix_m (n := n) (m := 0) (k := 0) (by omega) (by decide) (ix_m (n := n) (m := 1) (k := 0) (by omega) (by decide) (ix_m (n := n) (m := 2) (k := 0) (by omega) (by decide) (nIn (by omega) : (nI (n + 3)).toInt = ((n + 3 : Nat) : Int))))) (by omega) ?_
  rw [asc_i2b (show asc (dOnes 1) by decide), hu_hu]
  refine r_iload_n dJ27_getChars_85 rfl ?_
  refine r_bipush (v := (-9)) dJ27_getChars_86 rfl ?_
  refine r_icmp_ge 104 dJ27_getChars_88 rfl (fun c88 => ?_) (fun c88 => absurd c88 (by decide))
  refine r_iload dJ27_getChars_104 rfl ?_
  refine r_if_eq 118 dJ27_getChars_106 rfl (fun c106 => ?_) (fun c106 => absurd c106 (fun e => e rfl))
  refine r_iload dJ27_getChars_118 rfl ?_
  exact r_ireturn dJ27_getChars_120 rfl (by first | rfl | exact bi_nar) ⟨⟨_, rfl⟩, rfl⟩

theorem sp_J27_stringSize {G : GG} {h : HP} {v : Nat} (hv : v ≤ 100) : Ct G 0 0 M_J27_stringSize [.int (nI v)] h (eQ (some (.int (nI (digs v).length))) h) := by
  by_cases a : v < 10
  · rw [digs_1 a]
    exact sp_size_1 a
  · by_cases b : v < 100
    · rw [digs_2 (by omega) b]
      exact sp_size_2 (by omega) b
    · obtain rfl : v = 100 := by omega
      exact sp_size_3 (by omega) (by omega)
/-- the digits of v, written at n -/
theorem sp_J27_getChars {G : GG} {h : HP} (hT : KT G) {v n r N : Nat} {g : Nat → Int32} (hv : v ≤ 100) (hr : h r = some (bI 1 N g)) (hn : n < 400) (hN : n + (digs v).length ≤ N) : Ct G 0 0 M_J27_getChars [.int (nI v), .int (nI (n + (digs v).length)), .ref r] h (rQ (fun u h' => (∃ z, u = some (.int z)) ∧ ∃ g', h' = hu h r (bI 1 N g') ∧ (∀ j, j < n ∨ n + (digs v).length ≤ j → g' j = g j) ∧ ∀ j, j < (digs v).length → g' (n + j) = (digs v).getD j 0)) := by
  by_cases a : v < 10
  · rw [digs_1 a] at hN ⊢
    refine (sp_chars_1 hT a hr hn hN).mono (fun u h' hq => ?_)
    rcases u with u | q
    · obtain ⟨hz, rfl⟩ := hq
      refine ⟨hz, _, rfl, fun j hj => upd_n (by have hj2 : j < n ∨ n + 1 ≤ j := hj; omega), fun j hj => ?_⟩
      obtain rfl : j = 0 := by have : j < 1 := hj; omega
      rw [Nat.add_zero, upd_s]
      rfl
    · exact hq.elim
  · by_cases b : v < 100
    · rw [digs_2 (by omega) b] at hN ⊢
      refine (sp_chars_2 hT (by omega) b hr hn hN).mono (fun u h' hq => ?_)
      rcases u with u | q
      · obtain ⟨hz, rfl⟩ := hq
        refine ⟨hz, _, rfl, fun j hj => ?_, fun j hj => ?_⟩
        · have hj2 : j < n ∨ n + 2 ≤ j := hj
          rw [upd_n (by omega), upd_n (by omega)]
        · have hj2 : j < 2 := hj
          rcases (show j = 0 ∨ j = 1 by omega) with rfl | rfl
          · rw [show n + 0 = n from rfl, upd_s]; rfl
          · rw [upd_n (by omega), upd_s]; rfl
      · exact hq.elim
    · obtain rfl : v = 100 := by omega
      refine (sp_chars_3 hT hr hn hN).mono (fun u h' hq => ?_)
      rcases u with u | q
      · obtain ⟨hz, rfl⟩ := hq
        refine ⟨hz, _, rfl, fun j hj => ?_, fun j hj => ?_⟩
        · have hj2 : j < n ∨ n + 3 ≤ j := hj
          rw [upd_n (by omega), upd_n (by omega), upd_n (by omega)]
        · have hj2 : j < 3 := hj
          rcases (show j = 0 ∨ j = 1 ∨ j = 2 by omega) with rfl | rfl | rfl
          · rw [show n + 0 = n from rfl, upd_s]; rfl
          · rw [upd_n (by omega), upd_s]; rfl
          · rw [upd_n (by omega), upd_n (by omega), upd_s]; rfl
      · exact hq.elim
set_option maxHeartbeats 4000000 in
set_option maxRecDepth 100000 in
theorem sp_J10_append_3 {G : GG} {h : HP} (hT : KT G) {a r N : Nat} {l : List Int32} (hS : SB h a r N l) {w : Nat} (hw : w ≤ 100) (h60 : l.length + 3 ≤ 64) : Ct G 4 301 M_J10_append_3 [.ref a, .int (nI w)] h (rQ (fun v' h' => v' = some (.ref a) ∧ ∃ r' N', SB h' a r' N' (l ++ digs w) ∧ (r' = r ∨ h r' = none) ∧ ∀ q b, q ≠ a → q ≠ r → h q = some b → h' q = some b)) := by
  refine ct_intro my_J10_append_3 (Nat.le_of_ble_eq_true rfl) ?_
  have hS0 := hS
  obtain ⟨m, g, ha, hr, hl, hN, hg, hv⟩ := hS
  first | refine r_aload_n dJ10_append_3_0 rfl ?_ | refine r_aload_nq dJ10_append_3_0 rfl ?_ | refine r_aload_nN dJ10_append_3_0 rfl ?_
  refine r_getfield 14 3 dJ10_append_3_1 rfl (Nat.le_of_ble_eq_true rfl) (lkA q392) (Or.inl rfl) (Or.inl ha) (by rfl) ?_
  refine r_istore_n dJ10_append_3_4 (Nat.le_of_ble_eq_true rfl) ?_
  refine r_iload_n dJ10_append_3_5 rfl ?_
  refine r_iload_n dJ10_append_3_6 rfl ?_
  refine r_invS dJ10_append_3_7 (sp_J27_stringSize hw) rfl mo_J27_stringSize (lkA q1740) (lkA q1741) (lkA q101) mp_J27_stringSize (Nat.le_of_ble_eq_true rfl) (Nat.le_of_ble_eq_true rfl) (Nat.le_of_ble_eq_true rfl) (kr_e ?_) kx_e
  have hdl := digs_l (v := w)
  refine r_iadd dJ10_append_3_10 ?_
  rw [nJ_add (by omega)]
  refine r_istore_n dJ10_append_3_11 (Nat.le_of_ble_eq_true rfl) ?_
  first | refine r_aload_n dJ10_append_3_12 rfl ?_ | refine r_aload_nq dJ10_append_3_12 rfl ?_ | refine r_aload_nN dJ10_append_3_12 rfl ?_
  refine r_iload_n dJ10_append_3_13 rfl ?_
  refine r_invVP dJ10_append_3_14 (sp_cap hS0 (l.length + (digs w).length) (by omega)) rfl mo_J10_ensureCapacityInternal (Or.inl ha) rfl (lkA q671) (lkA q673) q672 (lkA q692) rfl (lkA q78) mp_J10_ensureCapacityInternal (Nat.le_of_ble_eq_true rfl) (Nat.le_of_ble_eq_true rfl) (Nat.le_of_ble_eq_true rfl) (kr_r (fun v9 h9 p9 => ?_)) kx_r
  obtain ⟨rfl, r', N', hS', hk', hr', hf⟩ := p9
  obtain ⟨m2, g2, ha2, hr2, hl2, hN2, hg2, hv2⟩ := hS'
  have era : r' ≠ a := ne_b ha2 hr2 (fun e => by cases e)
  first | refine r_aload_n dJ10_append_3_17 rfl ?_ | refine r_aload_nq dJ10_append_3_17 rfl ?_ | refine r_aload_nN dJ10_append_3_17 rfl ?_
  refine r_invU (owner := "java/lang/AbstractStringBuilder") dJ10_append_3_18 (sp_J10_isLatin1 hT (N := 0) (g := fun _ => 0) ha2) rfl mo_J10_isLatin1 (Or.inl ha2) rfl (lkA q689) (lkA q691) (Or.inl ⟨(lkA q690), _, _, _, (lkA q693)⟩) ⟨by decide +kernel, by decide +kernel⟩ (lkA q692) (lkA q690) rfl (show _ = some 0 from by decide +kernel) (lkA q78) mp_J10_isLatin1 (Nat.le_of_ble_eq_true rfl) (Nat.le_of_ble_eq_true rfl) (Nat.le_of_ble_eq_true rfl) (kr_e ?_) kx_e
  refine r_if_eq 37 dJ10_append_3_21 rfl (fun c21 => absurd c21 (by decide)) (fun c21 => ?_)
  refine r_iload_n dJ10_append_3_24 rfl ?_
  refine r_iload_n dJ10_append_3_25 rfl ?_
  first | refine r_aload_n dJ10_append_3_26 rfl ?_ | refine r_aload_nq dJ10_append_3_26 rfl ?_ | refine r_aload_nN dJ10_append_3_26 rfl ?_
  refine r_getfield 14 0 dJ10_append_3_27 rfl (Nat.le_of_ble_eq_true rfl) (lkA q388) (Or.inl rfl) (Or.inl ha2) (by rfl) ?_
  refine r_invS dJ10_append_3_30 (sp_J27_getChars hT hw hr2 (by omega) hk') rfl mo_J27_getChars (lkA q1743) (lkA q1744) (lkA q101) mp_J27_getChars (Nat.le_of_ble_eq_true rfl) (Nat.le_of_ble_eq_true rfl) (Nat.le_of_ble_eq_true rfl) (kr_r (fun v9 h9 p9 => ?_)) kx_r
  obtain ⟨⟨z9, rfl⟩, g3, rfl, hg3, hd3⟩ := p9
  refine r_pop dJ10_append_3_33 rfl ?_
  refine r_goto 48 dJ10_append_3_34 rfl ?_
  first | refine r_aload_n dJ10_append_3_48 rfl ?_ | refine r_aload_nq dJ10_append_3_48 rfl ?_ | refine r_aload_nN dJ10_append_3_48 rfl ?_
  refine r_iload_n dJ10_append_3_49 rfl ?_
  refine r_put 14 3 dJ10_append_3_50 rfl (Nat.le_of_ble_eq_true rfl) (lkA q392) (Or.inl rfl) rfl ((hu_n (Ne.symm era)).trans ha2) (by dsimp only [List.set]) (Nat.le_of_ble_eq_true rfl) rfl rfl (by first | exact hu_hu | exact rfl) ?_
  refine V_gen (fun H9 hH9 => ?_)
  have key : SB H9 a r' N' (l ++ digs w) := by
    refine SB_put (l := l) (t := digs w) (m := m2) (g := g3) ?_ ?_ (by omega) hN2 (fun j hj => ?_) (fun j hj => by rw [hg3 j (Or.inl hj)]; exact hv2 j hj) hd3
    · rw [← hH9, hu_s, List.length_append]
    · rw [← hH9, hu_n era, hu_s]
    · by_cases e : j < l.length ∨ l.length + (digs w).length ≤ j
      · rw [hg3 j e]; exact hg2 j hj
      · have e2 := hd3 (j - l.length) (by omega)
        rw [show l.length + (j - l.length) = j by omega] at e2
        rw [e2]
        exact digs_a hw _ (by omega)
  have frm : ∀ q b, q ≠ a → q ≠ r → h q = some b → H9 q = some b := fun q b hqa hqr hb => by
    have hb2 := hf q b hqa hb
    have e : q ≠ r' := fun e => by
      rcases hr' with e2 | e2
      · exact hqr (e.trans e2)
      · rw [e, e2] at hb; cases hb
    rw [← hH9, hu_n hqa, hu_n e]
    exact hb2
  first | refine r_aload_n dJ10_append_3_53 rfl ?_ | refine r_aload_nq dJ10_append_3_53 rfl ?_ | refine r_aload_nN dJ10_append_3_53 rfl ?_
  first | exact r_areturn dJ10_append_3_54 rfl rfl ⟨rfl, r', N', key, hr', frm⟩ | exact r_areturnq dJ10_append_3_54 rfl rfl ⟨rfl, r', N', key, hr', frm⟩ | exact r_areturnN dJ10_append_3_54 rfl rfl ⟨rfl, r', N', key, hr', frm⟩

set_option maxHeartbeats 4000000 in
set_option maxRecDepth 100000 in
theorem sp_J11_append_3 {G : GG} {h : HP} (hT : KT G) {a r N : Nat} {l : List Int32} (hS : SB h a r N l) {w : Nat} (hw : w ≤ 100) (h60 : l.length + 3 ≤ 64) : Ct G 5 301 M_J11_append_3 [.ref a, .int (nI w)] h (rQ (fun v' h' => v' = some (.ref a) ∧ ∃ r' N', SB h' a r' N' (l ++ digs w) ∧ (r' = r ∨ h r' = none) ∧ ∀ q b, q ≠ a → q ≠ r → h q = some b → h' q = some b)) := by
  refine ct_intro my_J11_append_3 (Nat.le_of_ble_eq_true rfl) ?_
  have ha := hS.choose_spec.choose_spec.1
  first | refine r_aload_n dJ11_append_3_0 rfl ?_ | refine r_aload_nq dJ11_append_3_0 rfl ?_ | refine r_aload_nN dJ11_append_3_0 rfl ?_
  refine r_iload_n dJ11_append_3_1 rfl ?_
  refine r_invSU dJ11_append_3_2 (sp_J10_append_3 hT hS hw h60) rfl mo_J10_append_3 (Or.inl ha) rfl (lkA q1737) (lkA q2250) (lkA q401) (lkA q1738) rfl (by decide +kernel) (lkA q78) mp_J10_append_3 (Nat.le_of_ble_eq_true rfl) (Nat.le_of_ble_eq_true rfl) (Nat.le_of_ble_eq_true rfl) (kr_r (fun v9 h9 p9 => ?_)) kx_r
  obtain ⟨rfl, hq9⟩ := p9
  refine r_pop dJ11_append_3_5 rfl ?_
  first | refine r_aload_n dJ11_append_3_6 rfl ?_ | refine r_aload_nq dJ11_append_3_6 rfl ?_ | refine r_aload_nN dJ11_append_3_6 rfl ?_
  first | exact r_areturn dJ11_append_3_7 rfl rfl ⟨rfl, hq9⟩ | exact r_areturnq dJ11_append_3_7 rfl rfl ⟨rfl, hq9⟩ | exact r_areturnN dJ11_append_3_7 rfl rfl ⟨rfl, hq9⟩

set_option maxHeartbeats 4000000 in
set_option maxRecDepth 100000 in
theorem sp_J10_getValue {G : GG} {h : HP} {a r : Nat} {m c : Int32} (ha : h a = some (bO 14 [.ref r, .int 0, .int m, .int c]))  : Ct G 0 0 M_J10_getValue [.ref a] h (eQ (some (.ref r)) h) := by
  refine ct_intro my_J10_getValue (Nat.le_of_ble_eq_true rfl) ?_
  first | refine r_aload_n dJ10_getValue_0 rfl ?_ | refine r_aload_nq dJ10_getValue_0 rfl ?_ | refine r_aload_nN dJ10_getValue_0 rfl ?_
  refine r_getfield 14 0 dJ10_getValue_1 rfl (Nat.le_of_ble_eq_true rfl) (lkA q388) (Or.inl rfl) (Or.inl ha) (by rfl) ?_
  first | exact r_areturn dJ10_getValue_4 rfl rfl (by first | exact ⟨rfl, rfl⟩ | rfl) | exact r_areturnq dJ10_getValue_4 rfl rfl (by first | exact ⟨rfl, rfl⟩ | rfl) | exact r_areturnN dJ10_getValue_4 rfl rfl (by first | exact ⟨rfl, rfl⟩ | rfl)

set_option maxHeartbeats 4000000 in
set_option maxRecDepth 100000 in
theorem sp_J8_checkLength {G : GG} {h : HP} {n : Nat} (hn : n < 1000) : Ct G 0 0 M_J8_checkLength [.int 0, .int (nI n)] h (eQ none h) := by
  refine ct_intro my_J8_checkLength (Nat.le_of_ble_eq_true rfl) ?_
  refine r_iload_n dJ8_checkLength_0 rfl ?_
  refine r_iload_n dJ8_checkLength_1 rfl ?_
  refine r_icmp_ge 37 dJ8_checkLength_2 rfl (fun c2 => ?_) (fun c2 => absurd c2 (fun e => e (by rw [Int32.le_iff_toInt_le, nIn hn]; have h0 : (0 : Int32).toInt = 0 := rfl; omega)))
  exact r_return dJ8_checkLength_37 rfl (by first | exact ⟨rfl, rfl⟩ | rfl)

set_option maxHeartbeats 4000000 in
set_option maxRecDepth 100000 in
theorem sp_range_c {G : GG} {h : HP} {r N n : Nat} {g : Nat → Int32} (hr : h r = some (bI 1 N g)) (hn : n ≤ N) (hN : N ≤ 130) (hg : ∀ j, j < N → asc (g j)) : Ct G 1 131 M_J8_copyOfRangeByte [.ref r, .int 0, .int (nI n)] h (rQ (fun v h' => ∃ q, v = some (.ref q) ∧ h q = none ∧ h' = hu h q (bI 1 n (va_cpy g (fun _ => 0) 0 0 n)))) := by
  refine ct_intro my_J8_copyOfRangeByte (Nat.le_of_ble_eq_true rfl) ?_
  refine r_iload_n dJ8_copyOfRangeByte_0 rfl ?_
  refine r_iload_n dJ8_copyOfRangeByte_1 rfl ?_
  refine r_invS dJ8_copyOfRangeByte_2 (sp_J8_checkLength (by omega)) rfl mo_J8_checkLength (lkA q797) (lkA q798) (lkA q75) mp_J8_checkLength (Nat.le_of_ble_eq_true rfl) (Nat.le_of_ble_eq_true rfl) (Nat.le_of_ble_eq_true rfl) (kr_e ?_) kx_e
  refine r_iload_n dJ8_copyOfRangeByte_5 rfl ?_
  refine r_iload_n dJ8_copyOfRangeByte_6 rfl ?_
  refine r_isub dJ8_copyOfRangeByte_7 ?_
  refine r_istore_n dJ8_copyOfRangeByte_8 (Nat.le_of_ble_eq_true rfl) ?_
  refine r_iload_n dJ8_copyOfRangeByte_9 rfl ?_
  rw [show nI n - 0 = nI n from Int32.sub_zero _]
  refine r_newaB n dJ8_copyOfRangeByte_10 (lkA q402) (nIn (by omega)) (by omega) (by omega) (fun q10 hq10 => ?_)
  first | refine r_astore dJ8_copyOfRangeByte_12 (Nat.le_of_ble_eq_true rfl) ?_ | refine r_astoreq dJ8_copyOfRangeByte_12 (Nat.le_of_ble_eq_true rfl) ?_ | refine r_astoreN dJ8_copyOfRangeByte_12 (Nat.le_of_ble_eq_true rfl) ?_
  first | refine r_aload_n dJ8_copyOfRangeByte_14 rfl ?_ | refine r_aload_nq dJ8_copyOfRangeByte_14 rfl ?_ | refine r_aload_nN dJ8_copyOfRangeByte_14 rfl ?_
  refine r_iload_n dJ8_copyOfRangeByte_15 rfl ?_
  first | refine r_aload dJ8_copyOfRangeByte_16 rfl ?_ | refine r_aloadq dJ8_copyOfRangeByte_16 rfl ?_ | refine r_aloadN dJ8_copyOfRangeByte_16 rfl ?_
  refine r_iconst (v := 0) dJ8_copyOfRangeByte_18 rfl ?_
  first | refine r_aload_n dJ8_copyOfRangeByte_19 rfl ?_ | refine r_aload_nq dJ8_copyOfRangeByte_19 rfl ?_ | refine r_aload_nN dJ8_copyOfRangeByte_19 rfl ?_
  refine r_alenI _ (Nat.le_of_ble_eq_true rfl) dJ8_copyOfRangeByte_20 (Or.inl (hu_o hq10 hr)) rfl ?_
  refine r_iload_n dJ8_copyOfRangeByte_21 rfl ?_
  refine r_isub dJ8_copyOfRangeByte_22 ?_
  refine r_iload_n dJ8_copyOfRangeByte_23 rfl ?_
  rw [show nI N - 0 = nI N from Int32.sub_zero _]
  refine r_mmin dJ8_copyOfRangeByte_24 (lkA q289) (lkA q290) (lkA q74) (lkA q291) (Nat.le_of_ble_eq_true rfl) (Nat.le_of_ble_eq_true rfl) ?_
  rw [min_i (by omega) (by omega), show min N n = n by omega]
  refine r_copy 0 0 n dJ8_copyOfRangeByte_27 (Or.inr rfl) (lkA q292) (lkA q294) (lkA q293) (lkA q76) (Or.inl (hu_o hq10 hr)) hu_s rfl rfl (nIn (by omega)) (by omega) (by omega) (fun _ i hi => by rw [Nat.zero_add]; exact asc_fit (hg i (by omega))) (Nat.le_of_ble_eq_true rfl) (Nat.le_of_ble_eq_true rfl) ?_
  rw [hu_hu]
  first | refine r_aload dJ8_copyOfRangeByte_30 rfl ?_ | refine r_aloadq dJ8_copyOfRangeByte_30 rfl ?_ | refine r_aloadN dJ8_copyOfRangeByte_30 rfl ?_
  first | exact r_areturn dJ8_copyOfRangeByte_32 rfl rfl ⟨q10, rfl, hq10, rfl⟩ | exact r_areturnq dJ8_copyOfRangeByte_32 rfl rfl ⟨q10, rfl, hq10, rfl⟩ | exact r_areturnN dJ8_copyOfRangeByte_32 rfl rfl ⟨q10, rfl, hq10, rfl⟩

set_option maxHeartbeats 4000000 in
set_option maxRecDepth 100000 in
theorem sp_J8_copyOfRange {G : GG} {h : HP} {r N n : Nat} {g : Nat → Int32} (hr : h r = some (bI 1 N g)) (hn : n ≤ N) (hN : N ≤ 130) (hg : ∀ j, j < N → asc (g j)) : Ct G 2 131 M_J8_copyOfRange [.ref r, .int 0, .int (nI n)] h (rQ (fun v h' => ∃ q f, v = some (.ref q) ∧ h q = none ∧ h' = hu h q (bI 1 n f) ∧ ∀ j, j < n → f j = g j)) := by
  refine ct_intro my_J8_copyOfRange (Nat.le_of_ble_eq_true rfl) ?_
  refine r_iload_n dJ8_copyOfRange_0 rfl ?_
  refine r_if_ne 10 dJ8_copyOfRange_1 rfl (fun c1 => absurd c1 (fun e => e rfl)) (fun c1 => ?_)
  refine r_iload_n dJ8_copyOfRange_4 rfl ?_
  first | refine r_aload_n dJ8_copyOfRange_5 rfl ?_ | refine r_aload_nq dJ8_copyOfRange_5 rfl ?_ | refine r_aload_nN dJ8_copyOfRange_5 rfl ?_
  refine r_alenI _ (Nat.le_of_ble_eq_true rfl) dJ8_copyOfRange_6 (Or.inl hr) rfl ?_
  refine r_icmp_eq 17 dJ8_copyOfRange_7 rfl (fun c7 => ?_) (fun c7 => ?_)
  · obtain rfl : n = N := by
      rw [nJ_eq (by omega) (by omega)] at c7
      exact c7
    first | refine r_aload_n dJ8_copyOfRange_17 rfl ?_ | refine r_aload_nq dJ8_copyOfRange_17 rfl ?_ | refine r_aload_nN dJ8_copyOfRange_17 rfl ?_
    refine r_cloneB dJ8_copyOfRange_18 (lkA q684) (lkA q685) (lkA q475) (lkA q476) (lkA q686) (lkT q687 rfl) hr (Nat.le_of_ble_eq_true rfl) (Nat.le_of_ble_eq_true rfl) (by omega) (fun q18 hq18 => ?_)
    refine r_castB dJ8_copyOfRange_21 hu_s (lkA q688) ?_
    exact r_areturn dJ8_copyOfRange_24 rfl rfl ⟨q18, g, rfl, hq18, rfl, fun j _ => rfl⟩
  · first | refine r_aload_n dJ8_copyOfRange_10 rfl ?_ | refine r_aload_nq dJ8_copyOfRange_10 rfl ?_ | refine r_aload_nN dJ8_copyOfRange_10 rfl ?_
    refine r_iload_n dJ8_copyOfRange_11 rfl ?_
    refine r_iload_n dJ8_copyOfRange_12 rfl ?_
    refine r_invS dJ8_copyOfRange_13 (sp_range_c hr hn hN hg) rfl mo_J8_copyOfRangeByte (lkA q794) (lkA q795) (lkA q75) mp_J8_copyOfRangeByte (Nat.le_of_ble_eq_true rfl) (by omega) (Nat.le_of_ble_eq_true rfl) (kr_r (fun v9 h9 p9 => ?_)) kx_r
    obtain ⟨q, rfl, hq, rfl⟩ := p9
    first | exact r_areturn dJ8_copyOfRange_16 rfl rfl ⟨q, _, rfl, hq, rfl, fun j hj => by show (if 0 ≤ j ∧ j < 0 + n then g (0 + (j - 0)) else 0) = g j; rw [if_pos (by omega), Nat.zero_add, Nat.sub_zero]⟩ | exact r_areturnq dJ8_copyOfRange_16 rfl rfl ⟨q, _, rfl, hq, rfl, fun j hj => by show (if 0 ≤ j ∧ j < 0 + n then g (0 + (j - 0)) else 0) = g j; rw [if_pos (by omega), Nat.zero_add, Nat.sub_zero]⟩ | exact r_areturnN dJ8_copyOfRange_16 rfl rfl ⟨q, _, rfl, hq, rfl, fun j hj => by show (if 0 ≤ j ∧ j < 0 + n then g (0 + (j - 0)) else 0) = g j; rw [if_pos (by omega), Nat.zero_add, Nat.sub_zero]⟩

set_option maxHeartbeats 4000000 in
set_option maxRecDepth 100000 in
theorem sp_J12_init_2 {G : GG} {h : HP} (hT : KT G) {a r N : Nat} {l : List Int32} (hS : SB h a r N l) {s : Nat} {x y : Value} (hs : h s = some (bO 15 [.null, .int 0, x, y])) : Ct G 3 131 M_J12_init_2 [.ref s, .ref a, .null] h (rQ (fun v h' => v = none ∧ ∃ q f, h q = none ∧ h' = hu (hu h q (bI 1 l.length f)) s (bO 15 [.ref q, .int 0, x, y]) ∧ ∀ j, j < l.length → f j = l.getD j 0)) := by
  refine ct_intro my_J12_init_2 (Nat.le_of_ble_eq_true rfl) ?_
  have hS0 := hS
  obtain ⟨m, g, ha, hr, hl, hN, hg, hv⟩ := hS
  first | refine r_aload_n dJ12_init_2_0 rfl ?_ | refine r_aload_nq dJ12_init_2_0 rfl ?_ | refine r_aload_nN dJ12_init_2_0 rfl ?_
  refine r_objinit (w1 := .tt) dJ12_init_2_1 (lkA q776) (lkA q112) (lkA q113) (Nat.le_of_ble_eq_true rfl) (Nat.le_of_ble_eq_true rfl) ?_
  first | refine r_aload_n dJ12_init_2_4 rfl ?_ | refine r_aload_nq dJ12_init_2_4 rfl ?_ | refine r_aload_nN dJ12_init_2_4 rfl ?_
  refine r_invU (owner := "java/lang/AbstractStringBuilder") dJ12_init_2_5 (sp_J10_getValue ha) rfl mo_J10_getValue (Or.inl ha) rfl (lkA q777) (lkA q779) (Or.inl ⟨(lkA q778), _, _, _, (lkA q781)⟩) ⟨by decide +kernel, by decide +kernel⟩ (lkA q780) (lkA q778) rfl (show _ = some 0 from by decide +kernel) (lkA q78) mp_J10_getValue (Nat.le_of_ble_eq_true rfl) (Nat.le_of_ble_eq_true rfl) (Nat.le_of_ble_eq_true rfl) (kr_e ?_) kx_e
  first | refine r_astore_n dJ12_init_2_8 (Nat.le_of_ble_eq_true rfl) ?_ | refine r_astore_nq dJ12_init_2_8 (Nat.le_of_ble_eq_true rfl) ?_ | refine r_astore_nN dJ12_init_2_8 (Nat.le_of_ble_eq_true rfl) ?_
  first | refine r_aload_n dJ12_init_2_9 rfl ?_ | refine r_aload_nq dJ12_init_2_9 rfl ?_ | refine r_aload_nN dJ12_init_2_9 rfl ?_
  refine r_invU (owner := "java/lang/AbstractStringBuilder") dJ12_init_2_10 (sp_J11_length hS0) rfl mo_J11_length (Or.inl ha) rfl (lkA q782) (lkA q784) (Or.inl ⟨(lkA q783), _, _, _, (lkA q789)⟩) ⟨by decide +kernel, by decide +kernel⟩ (lkA q785) (lkA q786) rfl (show _ = some 0 from by decide +kernel) (lkA q79) mp_J11_length (Nat.le_of_ble_eq_true rfl) (Nat.le_of_ble_eq_true rfl) (Nat.le_of_ble_eq_true rfl) (kr_e ?_) kx_e
  refine r_istore dJ12_init_2_13 (Nat.le_of_ble_eq_true rfl) ?_
  first | refine r_aload_n dJ12_init_2_15 rfl ?_ | refine r_aload_nq dJ12_init_2_15 rfl ?_ | refine r_aload_nN dJ12_init_2_15 rfl ?_
  refine r_invU (owner := "java/lang/AbstractStringBuilder") dJ12_init_2_16 (sp_J10_isLatin1 hT (N := 0) (g := fun _ => 0) ha) rfl mo_J10_isLatin1 (Or.inl ha) rfl (lkA q790) (lkA q691) (Or.inl ⟨(lkA q690), _, _, _, (lkA q693)⟩) ⟨by decide +kernel, by decide +kernel⟩ (lkA q692) (lkA q690) rfl (show _ = some 0 from by decide +kernel) (lkA q78) mp_J10_isLatin1 (Nat.le_of_ble_eq_true rfl) (Nat.le_of_ble_eq_true rfl) (Nat.le_of_ble_eq_true rfl) (kr_e ?_) kx_e
  refine r_if_eq 41 dJ12_init_2_19 rfl (fun c19 => absurd c19 (by decide)) (fun c19 => ?_)
  first | refine r_aload_n dJ12_init_2_22 rfl ?_ | refine r_aload_nq dJ12_init_2_22 rfl ?_ | refine r_aload_nN dJ12_init_2_22 rfl ?_
  refine r_iconst (v := 0) dJ12_init_2_23 rfl ?_
  refine r_putF 15 1 dJ12_init_2_24 rfl (Nat.le_of_ble_eq_true rfl) (lkA q814) rfl rfl rfl hs (by dsimp only [List.set]) (Nat.le_of_ble_eq_true rfl) rfl rfl (by first | exact hu_hu | exact rfl) ?_
  rw [← hu_same hs]
  first | refine r_aload_n dJ12_init_2_27 rfl ?_ | refine r_aload_nq dJ12_init_2_27 rfl ?_ | refine r_aload_nN dJ12_init_2_27 rfl ?_
  first | refine r_aload_n dJ12_init_2_28 rfl ?_ | refine r_aload_nq dJ12_init_2_28 rfl ?_ | refine r_aload_nN dJ12_init_2_28 rfl ?_
  refine r_iconst (v := 0) dJ12_init_2_29 rfl ?_
  refine r_iload dJ12_init_2_30 rfl ?_
  refine r_invS dJ12_init_2_32 (sp_J8_copyOfRange hr hl hN hg) rfl mo_J8_copyOfRange (lkA q791) (lkA q792) (lkA q75) mp_J8_copyOfRange (Nat.le_of_ble_eq_true rfl) (Nat.le_of_ble_eq_true rfl) (Nat.le_of_ble_eq_true rfl) (kr_r (fun v9 h9 p9 => ?_)) kx_r
  obtain ⟨q, f, rfl, hq, rfl, hf⟩ := p9
  refine r_putF 15 0 dJ12_init_2_35 rfl (Nat.le_of_ble_eq_true rfl) (lkA q813) rfl rfl rfl (hu_o hq hs) (by dsimp only [List.set]) (Nat.le_of_ble_eq_true rfl) rfl rfl (by first | exact hu_hu | exact rfl) ?_
  refine r_goto 97 dJ12_init_2_38 rfl ?_
  exact r_return dJ12_init_2_97 rfl ⟨rfl, q, f, hq, rfl, fun j hj => (hf j hj).trans (hv j hj)⟩

set_option maxHeartbeats 4000000 in
set_option maxRecDepth 100000 in
theorem sp_J12_init {G : GG} {h : HP} (hT : KT G) {a r N : Nat} {l : List Int32} (hS : SB h a r N l) {s : Nat} {x y : Value} (hs : h s = some (bO 15 [.null, .int 0, x, y])) : Ct G 4 131 M_J12_init [.ref s, .ref a] h (rQ (fun v h' => v = none ∧ ∃ q f, h q = none ∧ h' = hu (hu h q (bI 1 l.length f)) s (bO 15 [.ref q, .int 0, x, y]) ∧ ∀ j, j < l.length → f j = l.getD j 0)) := by
  refine ct_intro my_J12_init (Nat.le_of_ble_eq_true rfl) ?_
  first | refine r_aload_n dJ12_init_0 rfl ?_ | refine r_aload_nq dJ12_init_0 rfl ?_ | refine r_aload_nN dJ12_init_0 rfl ?_
  first | refine r_aload_n dJ12_init_1 rfl ?_ | refine r_aload_nq dJ12_init_1 rfl ?_ | refine r_aload_nN dJ12_init_1 rfl ?_
  refine r_null dJ12_init_2 ?_
  refine r_invI dJ12_init_3 (sp_J12_init_2 hT hS hs) rfl mo_J12_init_2 (lkA q773) (lkA q774) rfl rfl rfl (lkA q80) mp_J12_init_2 (Nat.le_of_ble_eq_true rfl) (Nat.le_of_ble_eq_true rfl) (Nat.le_of_ble_eq_true rfl) (kr_r (fun v9 h9 p9 => ?_)) kx_r
  obtain ⟨rfl, hq9⟩ := p9
  exact r_return dJ12_init_6 rfl ⟨rfl, hq9⟩

theorem SB_o {h : HP} {a r N : Nat} {l : List Int32} (hS : SB h a r N l) {q : Nat} {b : Bd} (hq : h q = none) : SB (hu h q b) a r N l := by
  obtain ⟨m, g, ha, hr, h1, h2, h3, h4⟩ := hS
  exact ⟨m, g, hu_o hq ha, hu_o hq hr, h1, h2, h3, h4⟩
/-- a String that was made: its cell, its bytes -/
def SN (h : HP) (s v : Nat) (l : List Int32) : Prop := ∃ f : Nat → Int32, h s = some (bO 15 [.ref v, .int 0, .int 0, .int 0]) ∧ h v = some (bI 1 l.length f) ∧ ∀ j, j < l.length → f j = l.getD j 0
set_option maxHeartbeats 4000000 in
set_option maxRecDepth 100000 in
theorem sp_J11_toString {G : GG} {h : HP} (hT : KT G) {a r N : Nat} {l : List Int32} (hS : SB h a r N l)  : Ct G 5 140 M_J11_toString [.ref a] h (rQ (fun v h' => ∃ s q, v = some (.ref s) ∧ h s = none ∧ h q = none ∧ SN h' s q l ∧ Ext h h')) := by
  refine ct_intro my_J11_toString (Nat.le_of_ble_eq_true rfl) ?_
  refine r_new 15 [.null, .int 0, .int 0, .int 0] dJ11_toString_0 rfl (lkA q768) (lkA q769) (lkA q80) (fun j hj => match j, hj with | 0, _ => rfl | 1, _ => rfl | 2, _ => rfl | 3, _ => rfl | k + 4, hk => absurd hk (Nat.not_lt.mpr (Nat.le_add_left 4 k))) (Nat.le_of_ble_eq_true rfl) (fun q0 hq0 => ?_)
  refine r_dup dJ11_toString_3 rfl ?_
  first | refine r_aload_n dJ11_toString_4 rfl ?_ | refine r_aload_nq dJ11_toString_4 rfl ?_ | refine r_aload_nN dJ11_toString_4 rfl ?_
  refine r_invI dJ11_toString_5 (sp_J12_init hT (SB_o hS hq0) hu_s) rfl mo_J12_init (lkA q770) (lkA q771) rfl rfl rfl (lkA q80) mp_J12_init (Nat.le_of_ble_eq_true rfl) (Nat.le_of_ble_eq_true rfl) (Nat.le_of_ble_eq_true rfl) (kr_r (fun v9 h9 p9 => ?_)) kx_r
  obtain ⟨rfl, q, f, hq, rfl, hf⟩ := p9
  have hqs := (ov_none_hu hq).1
  have hq2 := (ov_none_hu hq).2
  rw [hu_c (Ne.symm hqs), hu_hu]
  first | exact r_areturn dJ11_toString_8 rfl rfl ⟨q0, q, rfl, hq0, hq2, ⟨f, hu_s, (hu_n hqs).trans hu_s, hf⟩, fun x b hb => hu_o (show hu h q (bI 1 l.length f) q0 = none from (hu_n (Ne.symm hqs)).trans hq0) (hu_o hq2 hb)⟩ | exact r_areturnq dJ11_toString_8 rfl rfl ⟨q0, q, rfl, hq0, hq2, ⟨f, hu_s, (hu_n hqs).trans hu_s, hf⟩, fun x b hb => hu_o (show hu h q (bI 1 l.length f) q0 = none from (hu_n (Ne.symm hqs)).trans hq0) (hu_o hq2 hb)⟩ | exact r_areturnN dJ11_toString_8 rfl rfl ⟨q0, q, rfl, hq0, hq2, ⟨f, hu_s, (hu_n hqs).trans hu_s, hf⟩, fun x b hb => hu_o (show hu h q (bI 1 l.length f) q0 = none from (hu_n (Ne.symm hqs)).trans hq0) (hu_o hq2 hb)⟩

