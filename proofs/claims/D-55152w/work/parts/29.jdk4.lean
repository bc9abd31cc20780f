set_option maxRecDepth 100000
/-- the place i of a ring of 17 -/
def rg (i : Nat) : Nat := if i < 17 then i else i - 17
/-- the places of a ring: the head, how many, the items -/
def fDq (hd n : Nat) (it : Nat → Nat) : Nat → Option Nat := fun p => if p < 17 ∧ rg (p + 17 - hd) < n then some (it (rg (p + 17 - hd))) else none
abbrev bDq (r hd n : Nat) : Bd := bO 13 [.ref r, .int (nI hd), .int (nI (rg (hd + n)))]
abbrev bDr (hd n : Nat) (it : Nat → Nat) : Bd := bR 3 17 (fDq hd n it)
theorem va_up_s {f : Nat → Option Nat} {k : Nat} {x : Option Nat} : va_up f k x k = x := by simp [va_up]
theorem va_up_n {f : Nat → Option Nat} {k j : Nat} {x : Option Nat} (h : j ≠ k) : va_up f k x j = f j := by simp [va_up, h]
theorem rg_lt {i : Nat} (h : i < 34) : rg i < 17 := by
  unfold rg
  split <;> omega
theorem nIn {n : Nat} (h : n < 1000) : (nI n).toInt = (n : Int) := nI_toInt (by omega)
theorem fDq_at {hd n i : Nat} {it : Nat → Nat} (h : hd < 17) (hi : i < n) (hn : n ≤ 16) : fDq hd n it (rg (hd + i)) = some (it i) := by
  have e : rg (rg (hd + i) + 17 - hd) = i := by unfold rg; (repeat' split) <;> omega
  unfold fDq
  rw [e, if_pos ⟨rg_lt (by omega), hi⟩]
theorem fDq_z {hd : Nat} {it : Nat → Nat} : fDq hd 0 it = fun _ => none := by
  funext p
  unfold fDq
  rw [if_neg (by omega)]
/-- one item more at the end -/
theorem fDq_add {hd n v : Nat} {it : Nat → Nat} (h : hd < 17) (hn : n < 16) : va_up (fDq hd n it) (rg (hd + n)) (some v) = fDq hd (n + 1) (fun i => if i = n then v else it i) := by
  funext p
  have e : rg (rg (hd + n) + 17 - hd) = n := by unfold rg; (repeat' split) <;> omega
  by_cases e1 : p = rg (hd + n)
  · subst e1
    rw [va_up_s]
    unfold fDq
    rw [e, if_pos ⟨rg_lt (by omega), Nat.lt_succ_self n⟩]
    show some v = some (if n = n then v else it n)
    rw [if_pos rfl]
  · rw [va_up_n e1]
    unfold fDq
    by_cases e2 : p < 17
    · have e3 : rg (p + 17 - hd) ≠ n := by
        revert e1
        unfold rg
        repeat' split
        all_goals omega
      by_cases e4 : rg (p + 17 - hd) < n
      · rw [if_pos ⟨e2, e4⟩, if_pos ⟨e2, by omega⟩]
        show _ = some (if rg (p + 17 - hd) = n then v else it (rg (p + 17 - hd)))
        rw [if_neg e3]
      · rw [if_neg (by omega), if_neg (by omega)]
    · rw [if_neg (by omega), if_neg (by omega)]
/-- one item less at the head -/
theorem fDq_first {hd n : Nat} {it : Nat → Nat} (h : hd < 17) (hn : n < 16) : va_up (fDq hd (n + 1) it) hd none = fDq (rg (hd + 1)) n (fun i => it (i + 1)) := by
  funext p
  by_cases e1 : p = hd
  · subst e1
    rw [va_up_s]
    unfold fDq
    rw [if_neg]
    unfold rg
    repeat' split
    all_goals omega
  · rw [va_up_n e1]
    unfold fDq
    by_cases e2 : p < 17
    · have e3 : rg (p + 17 - hd) = rg (p + 17 - rg (hd + 1)) + 1 := by
        unfold rg
        repeat' split
        all_goals omega
      rw [e3]
      by_cases e4 : rg (p + 17 - rg (hd + 1)) < n
      · rw [if_pos ⟨e2, by omega⟩, if_pos ⟨e2, e4⟩]
      · rw [if_neg (by omega), if_neg (by omega)]
    · rw [if_neg (by omega), if_neg (by omega)]
/-- one item less at the end -/
theorem fDq_last {hd n : Nat} {it : Nat → Nat} (h : hd < 17) (hn : n < 16) : va_up (fDq hd (n + 1) it) (rg (hd + n)) none = fDq hd n it := by
  funext p
  have e : rg (rg (hd + n) + 17 - hd) = n := by unfold rg; (repeat' split) <;> omega
  by_cases e1 : p = rg (hd + n)
  · subst e1
    rw [va_up_s]
    unfold fDq
    rw [e, if_neg (by omega)]
  · rw [va_up_n e1]
    unfold fDq
    by_cases e2 : p < 17
    · have e3 : rg (p + 17 - hd) ≠ n := by
        revert e1
        unfold rg
        repeat' split
        all_goals omega
      by_cases e4 : rg (p + 17 - hd) < n
      · rw [if_pos ⟨e2, by omega⟩, if_pos ⟨e2, e4⟩]
      · rw [if_neg (by omega), if_neg (by omega)]
    · rw [if_neg (by omega), if_neg (by omega)]
theorem nI_e {x : Int32} {n : Nat} (h : x.toInt = (n : Int)) (hn : n < 1000) : x = nI n := by rw [i32_eq, nIn hn, h]
theorem rg_inc1 {j : Nat} (hj : j < 17) (c : nI j + 1 < 17) : nI j + 1 = nI (rg (j + 1)) := by
  have h := nIn (show j < 1000 by omega)
  rw [Int32.lt_iff_toInt_lt] at c
  simp only [tI_add, Int32.reduceToInt] at c
  refine nI_e ?_ (by have := rg_lt (i := j + 1) (by omega); omega)
  unfold rg
  simp only [tI_add, Int32.reduceToInt]
  split <;> split <;> omega
theorem rg_inc2 {j : Nat} (hj : j < 17) (c : ¬ nI j + 1 < 17) : (0 : Int32) = nI (rg (j + 1)) := by
  have h := nIn (show j < 1000 by omega)
  rw [Int32.lt_iff_toInt_lt] at c
  simp only [tI_add, Int32.reduceToInt] at c
  refine nI_e ?_ (by have := rg_lt (i := j + 1) (by omega); omega)
  unfold rg
  simp only [Int32.reduceToInt]
  split <;> omega
theorem rg_dec1 {j : Nat} (hj : j < 17) (c : 0 ≤ nI j + -1) : nI j + -1 = nI (rg (j + 16)) := by
  have h := nIn (show j < 1000 by omega)
  rw [Int32.le_iff_toInt_le] at c
  simp only [tI_add, Int32.reduceToInt] at c
  refine nI_e ?_ (by have := rg_lt (i := j + 16) (by omega); omega)
  unfold rg
  simp only [tI_add, Int32.reduceToInt]
  split <;> split <;> omega
theorem rg_dec2 {j : Nat} (hj : j < 17) (c : ¬ 0 ≤ nI j + -1) : (17 : Int32) - 1 = nI (rg (j + 16)) := by
  have h := nIn (show j < 1000 by omega)
  rw [Int32.le_iff_toInt_le] at c
  simp only [tI_add, Int32.reduceToInt] at c
  refine nI_e ?_ (by have := rg_lt (i := j + 16) (by omega); omega)
  unfold rg
  show (16 : Int) = _
  split <;> omega
theorem rg_ne {hd n : Nat} (h : hd < 17) (hn : n < 17) (h0 : 0 < n) : ¬ nI hd = nI (rg (hd + n)) := by
  rw [i32_eq, nIn (by omega), nIn (by have := rg_lt (i := hd + n) (by omega); omega)]
  unfold rg
  split <;> omega
set_option maxHeartbeats 4000000 in
set_option maxRecDepth 100000 in
theorem sp_J9_inc {G : GG} {h : HP} {j : Nat} (hj : j < 17) : Ct G 0 0 M_J9_inc [.int (nI j), .int 17] h (eQ (some (.int (nI (rg (j + 1))))) h) := by
  refine ct_intro my_J9_inc (Nat.le_of_ble_eq_true rfl) ?_
  refine r_inc 1 dJ9_inc_0 rfl rfl (Nat.le_of_ble_eq_true rfl) ?_
  refine r_iload_n dJ9_inc_3 rfl ?_
  refine r_iload_n dJ9_inc_4 rfl ?_
  refine r_icmp_lt 10 dJ9_inc_5 rfl (fun c5 => ?_) (fun c5 => ?_)
  · refine r_iload_n dJ9_inc_10 rfl ?_
    exact r_ireturn dJ9_inc_11 rfl (by first | rfl | exact bi_nar) ⟨by rw [rg_inc1 hj c5], rfl⟩
  · refine r_iconst (v := 0) dJ9_inc_8 rfl ?_
    refine r_istore_n dJ9_inc_9 (Nat.le_of_ble_eq_true rfl) ?_
    refine r_iload_n dJ9_inc_10 rfl ?_
    exact r_ireturn dJ9_inc_11 rfl (by first | rfl | exact bi_nar) ⟨by rw [rg_inc2 hj c5], rfl⟩

set_option maxHeartbeats 4000000 in
set_option maxRecDepth 100000 in
theorem sp_J9_dec {G : GG} {h : HP} {j : Nat} (hj : j < 17) : Ct G 0 0 M_J9_dec [.int (nI j), .int 17] h (eQ (some (.int (nI (rg (j + 16))))) h) := by
  refine ct_intro my_J9_dec (Nat.le_of_ble_eq_true rfl) ?_
  refine r_inc (-1) dJ9_dec_0 rfl rfl (Nat.le_of_ble_eq_true rfl) ?_
  refine r_iload_n dJ9_dec_3 rfl ?_
  refine r_if_ge 11 dJ9_dec_4 rfl (fun c4 => ?_) (fun c4 => ?_)
  · refine r_iload_n dJ9_dec_11 rfl ?_
    exact r_ireturn dJ9_dec_12 rfl (by first | rfl | exact bi_nar) ⟨by rw [rg_dec1 hj c4], rfl⟩
  · refine r_iload_n dJ9_dec_7 rfl ?_
    refine r_iconst (v := 1) dJ9_dec_8 rfl ?_
    refine r_isub dJ9_dec_9 ?_
    refine r_istore_n dJ9_dec_10 (Nat.le_of_ble_eq_true rfl) ?_
    refine r_iload_n dJ9_dec_11 rfl ?_
    exact r_ireturn dJ9_dec_12 rfl (by first | rfl | exact bi_nar) ⟨by rw [rg_dec2 hj c4], rfl⟩

set_option maxHeartbeats 4000000 in
set_option maxRecDepth 100000 in
theorem sp_J9_init {G : GG} {h : HP} {a : Nat} {x0 : Value} (ha : h a = some (bO 13 [x0, .int 0, .int 0])) : Ct G 2 18 M_J9_init [.ref a] h (rQ (fun v h' => v = none ∧ ∃ q, h q = none ∧ h' = hu (hu h q (bDr 0 0 (fun _ => 0))) a (bDq q 0 0))) := by
  refine ct_intro my_J9_init (Nat.le_of_ble_eq_true rfl) ?_
  first | refine r_aload_n dJ9_init_0 rfl ?_ | refine r_aload_nq dJ9_init_0 rfl ?_ | refine r_aload_nN dJ9_init_0 rfl ?_
  refine r_invI dJ9_init_1 (sp_J0_init ) rfl mo_J0_init (lkA q358) (lkA q129) rfl rfl rfl (lkA q66) mp_J0_init (Nat.le_of_ble_eq_true rfl) (Nat.le_of_ble_eq_true rfl) (Nat.le_of_ble_eq_true rfl) (kr_e ?_) kx_e
  try simp only [hu_hu]
  first | refine r_aload_n dJ9_init_4 rfl ?_ | refine r_aload_nq dJ9_init_4 rfl ?_ | refine r_aload_nN dJ9_init_4 rfl ?_
  refine r_bipush (v := 17) dJ9_init_5 rfl ?_
  refine r_newaR (t := 3) 17 (Nat.le_of_ble_eq_true rfl) rfl dJ9_init_7 (lkA q359) (lkT q133 rfl) rfl (Nat.le_of_ble_eq_true rfl) (Nat.le_of_ble_eq_true rfl) (fun q7 hq7 => ?_)
  refine r_put 13 0 dJ9_init_10 rfl (Nat.le_of_ble_eq_true rfl) (lkA q360) (Or.inl rfl) rfl (by repeat' first | assumption | exact hu_s | refine hu_o (by assumption) ?_ | refine (hu_n (by first | assumption | exact Ne.symm (by assumption) | exact ne_o (by assumption) (by assumption) | exact Ne.symm (ne_o (by assumption) (by assumption)))).trans ?_) (by dsimp only [List.set]) (Nat.le_of_ble_eq_true rfl) rfl rfl (by first | exact hu_hu | exact rfl) ?_
  exact r_return dJ9_init_13 rfl ⟨rfl, q7, hq7, by rw [bDr, fDq_z]; rfl⟩

theorem rg_sub1 {hd n : Nat} (hh : hd < 17) (hn : n ≤ 16) (c : 0 ≤ nI (rg (hd + n)) - nI hd) : nI (rg (hd + n)) - nI hd = nI n := by
  have h1 := nIn (show hd < 1000 by omega)
  have h2 := nIn (show rg (hd + n) < 1000 by have := rg_lt (i := hd + n) (by omega); omega)
  have h3 := rg_lt (i := hd + n) (by omega)
  rw [Int32.le_iff_toInt_le] at c
  simp only [tI_sub, Int32.reduceToInt] at c
  refine nI_e ?_ (by omega)
  simp only [tI_sub]
  have : rg (hd + n) = hd + n ∨ rg (hd + n) + 17 = hd + n := by unfold rg; split <;> omega
  rw [if_pos (by omega)] at c ⊢
  omega
theorem rg_sub2 {hd n : Nat} (hh : hd < 17) (hn : n ≤ 16) (c : ¬ 0 ≤ nI (rg (hd + n)) - nI hd) : nI (rg (hd + n)) - nI hd + 17 = nI n := by
  have h1 := nIn (show hd < 1000 by omega)
  have h2 := nIn (show rg (hd + n) < 1000 by have := rg_lt (i := hd + n) (by omega); omega)
  have h3 := rg_lt (i := hd + n) (by omega)
  rw [Int32.le_iff_toInt_le] at c
  simp only [tI_sub, Int32.reduceToInt] at c
  refine nI_e ?_ (by omega)
  simp only [tI_sub, tI_add, Int32.reduceToInt]
  have : rg (hd + n) = hd + n ∨ rg (hd + n) + 17 = hd + n := by unfold rg; split <;> omega
  rw [if_pos (by omega)] at c ⊢
  rw [if_pos (by omega)]
  omega
set_option maxHeartbeats 4000000 in
set_option maxRecDepth 100000 in
theorem sp_J9_addLast {G : GG} {h : HP} {a r hd n : Nat} {it : Nat → Nat} (ha : h a = some (bDq r hd n)) (hr : h r = some (bDr hd n it)) (hh : hd < 17) (hn : n ≤ 15) {v ci : Nat} {fs : List Value} {rr : vw_C} (hv : h v = some (bO ci fs)) (hrr : kCl[ci]? = some rr) (hca : rr.1 = "java/lang/Object" ∨ lk (.castable rr.1 "java/lang/Object")) (hva : v ≠ a)  : Ct G 1 0 M_J9_addLast [.ref a, .ref v] h (eQ none (hu (hu h r (bDr hd (n + 1) (fun i => if i = n then v else it i))) a (bDq r hd (n + 1)))) := by
  refine ct_intro my_J9_addLast (Nat.le_of_ble_eq_true rfl) ?_
  have ear : a ≠ r := ne_b hr ha (fun e => by cases e)
  have eh := nIn (show hd < 1000 by omega)
  have et := nIn (show rg (hd + n) < 1000 by have := rg_lt (i := hd + n) (by omega); omega)
  have lt := rg_lt (i := hd + n) (by omega)
  first | refine r_aload_n dJ9_addLast_0 rfl ?_ | refine r_aload_nq dJ9_addLast_0 rfl ?_ | refine r_aload_nN dJ9_addLast_0 rfl ?_
  refine r_ifnonnull 12 dJ9_addLast_1 rfl ?_
  first | refine r_aload_n dJ9_addLast_12 rfl ?_ | refine r_aload_nq dJ9_addLast_12 rfl ?_ | refine r_aload_nN dJ9_addLast_12 rfl ?_
  refine r_getfield 13 0 dJ9_addLast_13 rfl (Nat.le_of_ble_eq_true rfl) (lkA q360) (Or.inl rfl) (by first | exact Or.inl (by assumption) | assumption | (refine Or.inl ?_; repeat' first | assumption | exact hu_s | refine hu_o (by assumption) ?_ | refine (hu_n (by first | assumption | exact Ne.symm (by assumption) | exact ne_o (by assumption) (by assumption) | exact Ne.symm (ne_o (by assumption) (by assumption)))).trans ?_)) (by rfl) ?_
  first | refine r_astore_n dJ9_addLast_16 (Nat.le_of_ble_eq_true rfl) ?_ | refine r_astore_nq dJ9_addLast_16 (Nat.le_of_ble_eq_true rfl) ?_ | refine r_astore_nN dJ9_addLast_16 (Nat.le_of_ble_eq_true rfl) ?_
  first | refine r_aload_n dJ9_addLast_17 rfl ?_ | refine r_aload_nq dJ9_addLast_17 rfl ?_ | refine r_aload_nN dJ9_addLast_17 rfl ?_
  first | refine r_aload_n dJ9_addLast_18 rfl ?_ | refine r_aload_nq dJ9_addLast_18 rfl ?_ | refine r_aload_nN dJ9_addLast_18 rfl ?_
  refine r_getfield 13 2 dJ9_addLast_19 rfl (Nat.le_of_ble_eq_true rfl) (lkA q362) (Or.inl rfl) (by first | exact Or.inl (by assumption) | assumption | (refine Or.inl ?_; repeat' first | assumption | exact hu_s | refine hu_o (by assumption) ?_ | refine (hu_n (by first | assumption | exact Ne.symm (by assumption) | exact ne_o (by assumption) (by assumption) | exact Ne.symm (ne_o (by assumption) (by assumption)))).trans ?_)) (by rfl) ?_
  first | refine r_aload_n dJ9_addLast_22 rfl ?_ | refine r_aload_nq dJ9_addLast_22 rfl ?_ | refine r_aload_nN dJ9_addLast_22 rfl ?_
  refine r_aastore (t := 3) (rg (hd + n)) (by decide) rfl dJ9_addLast_23 hr (Or.inl hv) hrr hca et lt ?_
  first | refine r_aload_n dJ9_addLast_24 rfl ?_ | refine r_aload_nq dJ9_addLast_24 rfl ?_ | refine r_aload_nN dJ9_addLast_24 rfl ?_
  refine r_getfield 13 1 dJ9_addLast_25 rfl (Nat.le_of_ble_eq_true rfl) (lkA q361) (Or.inl rfl) (Or.inl ((hu_n ear).trans ha)) (by rfl) ?_
  first | refine r_aload_n dJ9_addLast_28 rfl ?_ | refine r_aload_nq dJ9_addLast_28 rfl ?_ | refine r_aload_nN dJ9_addLast_28 rfl ?_
  first | refine r_aload_n dJ9_addLast_29 rfl ?_ | refine r_aload_nq dJ9_addLast_29 rfl ?_ | refine r_aload_nN dJ9_addLast_29 rfl ?_
  refine r_getfield 13 2 dJ9_addLast_30 rfl (Nat.le_of_ble_eq_true rfl) (lkA q362) (Or.inl rfl) (Or.inl ((hu_n ear).trans ha)) (by rfl) ?_
  first | refine r_aload_n dJ9_addLast_33 rfl ?_ | refine r_aload_nq dJ9_addLast_33 rfl ?_ | refine r_aload_nN dJ9_addLast_33 rfl ?_
  refine r_alenR _ (Nat.le_of_ble_eq_true rfl) dJ9_addLast_34 (by first | exact Or.inl (by assumption) | assumption | (refine Or.inl ?_; repeat' first | assumption | exact hu_s | refine hu_o (by assumption) ?_ | refine (hu_n (by first | assumption | exact Ne.symm (by assumption) | exact ne_o (by assumption) (by assumption) | exact Ne.symm (ne_o (by assumption) (by assumption)))).trans ?_)) rfl ?_
  refine r_invS dJ9_addLast_35 (sp_J9_inc lt) rfl mo_J9_inc (lkA q1090) (lkA q1091) (lkA q77) mp_J9_inc (Nat.le_of_ble_eq_true rfl) (Nat.le_of_ble_eq_true rfl) (Nat.le_of_ble_eq_true rfl) (kr_e ?_) kx_e
  refine r_dup_x1 dJ9_addLast_38 rfl rfl ?_
  refine r_put 13 2 dJ9_addLast_39 rfl (Nat.le_of_ble_eq_true rfl) (lkA q362) (Or.inl rfl) rfl ((hu_n ear).trans ha) (by dsimp only [List.set]) (Nat.le_of_ble_eq_true rfl) rfl rfl (by first | exact hu_hu | exact rfl) ?_
  refine r_icmp_ne 50 dJ9_addLast_42 rfl (fun c42 => ?_) (fun c42 => absurd c42 (by rw [show rg (rg (hd + n) + 1) = rg (hd + (n + 1)) by unfold rg; (repeat' split) <;> omega]; exact fun e => rg_ne hh (by omega) (by omega) e))
  exact r_return dJ9_addLast_50 rfl ⟨rfl, by rw [show rg (rg (hd + n) + 1) = rg (hd + (n + 1)) by unfold rg; (repeat' split) <;> omega, fDq_add hh (by omega)]⟩

set_option maxHeartbeats 4000000 in
set_option maxRecDepth 100000 in
theorem sp_J9_sub {G : GG} {h : HP} (hd n : Nat) (hh : hd < 17) (hn : n ≤ 16) : Ct G 0 0 M_J9_sub [.int (nI (rg (hd + n))), .int (nI hd), .int 17] h (eQ (some (.int (nI n))) h) := by
  refine ct_intro my_J9_sub (Nat.le_of_ble_eq_true rfl) ?_
  refine r_iload_n dJ9_sub_0 rfl ?_
  refine r_iload_n dJ9_sub_1 rfl ?_
  refine r_isub dJ9_sub_2 ?_
  refine r_dup dJ9_sub_3 rfl ?_
  refine r_istore_n dJ9_sub_4 (Nat.le_of_ble_eq_true rfl) ?_
  refine r_if_ge 12 dJ9_sub_5 rfl (fun c5 => ?_) (fun c5 => ?_)
  · refine r_iload_n dJ9_sub_12 rfl ?_
    exact r_ireturn dJ9_sub_13 rfl (by first | rfl | exact bi_nar) ⟨by rw [rg_sub1 hh hn c5], rfl⟩
  · refine r_iload_n dJ9_sub_8 rfl ?_
    refine r_iload_n dJ9_sub_9 rfl ?_
    refine r_iadd dJ9_sub_10 ?_
    refine r_istore_n dJ9_sub_11 (Nat.le_of_ble_eq_true rfl) ?_
    refine r_iload_n dJ9_sub_12 rfl ?_
    exact r_ireturn dJ9_sub_13 rfl (by first | rfl | exact bi_nar) ⟨by rw [rg_sub2 hh hn c5], rfl⟩

set_option maxHeartbeats 4000000 in
set_option maxRecDepth 100000 in
theorem sp_J9_size {G : GG} {h : HP} {a r hd n : Nat} {it : Nat → Nat} (ha : h a = some (bDq r hd n)) (hr : h r = some (bDr hd n it)) (hh : hd < 17) (hn : n ≤ 16)  : Ct G 1 0 M_J9_size [.ref a] h (eQ (some (.int (nI n))) h) := by
  refine ct_intro my_J9_size (Nat.le_of_ble_eq_true rfl) ?_
  first | refine r_aload_n dJ9_size_0 rfl ?_ | refine r_aload_nq dJ9_size_0 rfl ?_ | refine r_aload_nN dJ9_size_0 rfl ?_
  refine r_getfield 13 2 dJ9_size_1 rfl (Nat.le_of_ble_eq_true rfl) (lkA q362) (Or.inl rfl) (by first | exact Or.inl (by assumption) | assumption | (refine Or.inl ?_; repeat' first | assumption | exact hu_s | refine hu_o (by assumption) ?_ | refine (hu_n (by first | assumption | exact Ne.symm (by assumption) | exact ne_o (by assumption) (by assumption) | exact Ne.symm (ne_o (by assumption) (by assumption)))).trans ?_)) (by rfl) ?_
  first | refine r_aload_n dJ9_size_4 rfl ?_ | refine r_aload_nq dJ9_size_4 rfl ?_ | refine r_aload_nN dJ9_size_4 rfl ?_
  refine r_getfield 13 1 dJ9_size_5 rfl (Nat.le_of_ble_eq_true rfl) (lkA q361) (Or.inl rfl) (by first | exact Or.inl (by assumption) | assumption | (refine Or.inl ?_; repeat' first | assumption | exact hu_s | refine hu_o (by assumption) ?_ | refine (hu_n (by first | assumption | exact Ne.symm (by assumption) | exact ne_o (by assumption) (by assumption) | exact Ne.symm (ne_o (by assumption) (by assumption)))).trans ?_)) (by rfl) ?_
  first | refine r_aload_n dJ9_size_8 rfl ?_ | refine r_aload_nq dJ9_size_8 rfl ?_ | refine r_aload_nN dJ9_size_8 rfl ?_
  refine r_getfield 13 0 dJ9_size_9 rfl (Nat.le_of_ble_eq_true rfl) (lkA q360) (Or.inl rfl) (by first | exact Or.inl (by assumption) | assumption | (refine Or.inl ?_; repeat' first | assumption | exact hu_s | refine hu_o (by assumption) ?_ | refine (hu_n (by first | assumption | exact Ne.symm (by assumption) | exact ne_o (by assumption) (by assumption) | exact Ne.symm (ne_o (by assumption) (by assumption)))).trans ?_)) (by rfl) ?_
  refine r_alenR _ (Nat.le_of_ble_eq_true rfl) dJ9_size_12 (by first | exact Or.inl (by assumption) | assumption | (refine Or.inl ?_; repeat' first | assumption | exact hu_s | refine hu_o (by assumption) ?_ | refine (hu_n (by first | assumption | exact Ne.symm (by assumption) | exact ne_o (by assumption) (by assumption) | exact Ne.symm (ne_o (by assumption) (by assumption)))).trans ?_)) rfl ?_
  refine r_invS dJ9_size_13 (sp_J9_sub hd n hh (by omega)) rfl mo_J9_sub (lkA q1109) (lkA q1110) (lkA q77) mp_J9_sub (Nat.le_of_ble_eq_true rfl) (Nat.le_of_ble_eq_true rfl) (Nat.le_of_ble_eq_true rfl) (kr_e ?_) kx_e
  exact r_ireturn dJ9_size_16 rfl (by first | rfl | exact bi_nar) (by first | exact ⟨rfl, rfl⟩ | rfl)

set_option maxHeartbeats 4000000 in
set_option maxRecDepth 100000 in
theorem sp_J9_isEmpty {G : GG} {h : HP} {a r hd n : Nat} {it : Nat → Nat} (ha : h a = some (bDq r hd n)) (hr : h r = some (bDr hd n it)) (hh : hd < 17) (hn : n ≤ 16)  : Ct G 0 0 M_J9_isEmpty [.ref a] h (eQ (some (.int (if n = 0 then 1 else 0))) h) := by
  refine ct_intro my_J9_isEmpty (Nat.le_of_ble_eq_true rfl) ?_
  first | refine r_aload_n dJ9_isEmpty_0 rfl ?_ | refine r_aload_nq dJ9_isEmpty_0 rfl ?_ | refine r_aload_nN dJ9_isEmpty_0 rfl ?_
  refine r_getfield 13 1 dJ9_isEmpty_1 rfl (Nat.le_of_ble_eq_true rfl) (lkA q361) (Or.inl rfl) (by first | exact Or.inl (by assumption) | assumption | (refine Or.inl ?_; repeat' first | assumption | exact hu_s | refine hu_o (by assumption) ?_ | refine (hu_n (by first | assumption | exact Ne.symm (by assumption) | exact ne_o (by assumption) (by assumption) | exact Ne.symm (ne_o (by assumption) (by assumption)))).trans ?_)) (by rfl) ?_
  first | refine r_aload_n dJ9_isEmpty_4 rfl ?_ | refine r_aload_nq dJ9_isEmpty_4 rfl ?_ | refine r_aload_nN dJ9_isEmpty_4 rfl ?_
  refine r_getfield 13 2 dJ9_isEmpty_5 rfl (Nat.le_of_ble_eq_true rfl) (lkA q362) (Or.inl rfl) (by first | exact Or.inl (by assumption) | assumption | (refine Or.inl ?_; repeat' first | assumption | exact hu_s | refine hu_o (by assumption) ?_ | refine (hu_n (by first | assumption | exact Ne.symm (by assumption) | exact ne_o (by assumption) (by assumption) | exact Ne.symm (ne_o (by assumption) (by assumption)))).trans ?_)) (by rfl) ?_
  refine r_icmp_ne 15 dJ9_isEmpty_8 rfl (fun c8 => ?_) (fun c8 => ?_)
  · refine r_iconst (v := 0) dJ9_isEmpty_15 rfl ?_
    exact r_ireturn dJ9_isEmpty_16 rfl (by first | rfl | exact bi_nar) (by rw [if_neg (fun e => c8 (by rw [e]; unfold rg; rw [if_pos (by omega)]; rfl))]; exact ⟨rfl, rfl⟩)
  · refine r_iconst (v := 1) dJ9_isEmpty_11 rfl ?_
    refine r_goto 16 dJ9_isEmpty_12 rfl ?_
    exact r_ireturn dJ9_isEmpty_16 rfl (by first | rfl | exact bi_nar) (by rw [if_pos ((Nat.eq_zero_or_pos n).resolve_right (fun e => rg_ne hh (by omega) e c8))]; exact ⟨rfl, rfl⟩)

set_option maxHeartbeats 4000000 in
set_option maxRecDepth 100000 in
theorem sp_J9_elementAt {G : GG} {h : HP} {r N j : Nat} {i : Int32} {x : Nat} {f : Nat → Option Nat} (hr : h r = some (bR 3 N f)) (hj : i.toInt = (j : Int)) (hjN : j < N) (hv : f j = some x) : Ct G 0 0 M_J9_elementAt [.ref r, .int i] h (eQ (some (.ref x)) h) := by
  refine ct_intro my_J9_elementAt (Nat.le_of_ble_eq_true rfl) ?_
  first | refine r_aload_n dJ9_elementAt_0 rfl ?_ | refine r_aload_nq dJ9_elementAt_0 rfl ?_ | refine r_aload_nN dJ9_elementAt_0 rfl ?_
  refine r_iload_n dJ9_elementAt_1 rfl ?_
  refine r_aaload (j) (Or.inl rfl) dJ9_elementAt_2 (by first | exact Or.inl (by assumption) | assumption | (refine Or.inl ?_; repeat' first | assumption | exact hu_s | refine hu_o (by assumption) ?_ | refine (hu_n (by first | assumption | exact Ne.symm (by assumption) | exact ne_o (by assumption) (by assumption) | exact Ne.symm (ne_o (by assumption) (by assumption)))).trans ?_)) hj hjN hv ?_
  first | exact r_areturn dJ9_elementAt_3 rfl rfl (by first | exact ⟨rfl, rfl⟩ | rfl) | exact r_areturnq dJ9_elementAt_3 rfl rfl (by first | exact ⟨rfl, rfl⟩ | rfl) | exact r_areturnN dJ9_elementAt_3 rfl rfl (by first | exact ⟨rfl, rfl⟩ | rfl)

set_option maxHeartbeats 4000000 in
set_option maxRecDepth 100000 in
theorem sp_J9_pollFirst {G : GG} {h : HP} {a r hd n : Nat} {it : Nat → Nat} (ha : h a = some (bDq r hd (n + 1))) (hr : h r = some (bDr hd (n + 1) it)) (hh : hd < 17) (hn : n ≤ 15)  : Ct G 1 0 M_J9_pollFirst [.ref a] h (eQ (some (.ref (it 0))) (hu (hu h r (bDr (rg (hd + 1)) n (fun i => it (i + 1)))) a (bDq r (rg (hd + 1)) n))) := by
  refine ct_intro my_J9_pollFirst (Nat.le_of_ble_eq_true rfl) ?_
  have ear : a ≠ r := ne_b hr ha (fun e => by cases e)
  have eh := nIn (show hd < 1000 by omega)
  first | refine r_aload_n dJ9_pollFirst_0 rfl ?_ | refine r_aload_nq dJ9_pollFirst_0 rfl ?_ | refine r_aload_nN dJ9_pollFirst_0 rfl ?_
  refine r_getfield 13 0 dJ9_pollFirst_1 rfl (Nat.le_of_ble_eq_true rfl) (lkA q360) (Or.inl rfl) (by first | exact Or.inl (by assumption) | assumption | (refine Or.inl ?_; repeat' first | assumption | exact hu_s | refine hu_o (by assumption) ?_ | refine (hu_n (by first | assumption | exact Ne.symm (by assumption) | exact ne_o (by assumption) (by assumption) | exact Ne.symm (ne_o (by assumption) (by assumption)))).trans ?_)) (by rfl) ?_
  refine r_dup dJ9_pollFirst_4 rfl ?_
  first | refine r_astore_n dJ9_pollFirst_5 (Nat.le_of_ble_eq_true rfl) ?_ | refine r_astore_nq dJ9_pollFirst_5 (Nat.le_of_ble_eq_true rfl) ?_ | refine r_astore_nN dJ9_pollFirst_5 (Nat.le_of_ble_eq_true rfl) ?_
  first | refine r_aload_n dJ9_pollFirst_6 rfl ?_ | refine r_aload_nq dJ9_pollFirst_6 rfl ?_ | refine r_aload_nN dJ9_pollFirst_6 rfl ?_
  refine r_getfield 13 1 dJ9_pollFirst_7 rfl (Nat.le_of_ble_eq_true rfl) (lkA q361) (Or.inl rfl) (by first | exact Or.inl (by assumption) | assumption | (refine Or.inl ?_; repeat' first | assumption | exact hu_s | refine hu_o (by assumption) ?_ | refine (hu_n (by first | assumption | exact Ne.symm (by assumption) | exact ne_o (by assumption) (by assumption) | exact Ne.symm (ne_o (by assumption) (by assumption)))).trans ?_)) (by rfl) ?_
  refine r_dup dJ9_pollFirst_10 rfl ?_
  refine r_istore_n dJ9_pollFirst_11 (Nat.le_of_ble_eq_true rfl) ?_
  refine r_invS dJ9_pollFirst_12 (sp_J9_elementAt hr eh hh (by have := fDq_at (i := 0) (it := it) hh (Nat.succ_pos n) (by omega); rw [show rg (hd + 0) = hd by unfold rg; rw [if_pos (by omega)]; rfl] at this; exact this)) rfl mo_J9_elementAt (lkA q1120) (lkA q1121) (lkA q77) mp_J9_elementAt (Nat.le_of_ble_eq_true rfl) (Nat.le_of_ble_eq_true rfl) (Nat.le_of_ble_eq_true rfl) (kr_e ?_) kx_e
  first | refine r_astore_n dJ9_pollFirst_15 (Nat.le_of_ble_eq_true rfl) ?_ | refine r_astore_nq dJ9_pollFirst_15 (Nat.le_of_ble_eq_true rfl) ?_ | refine r_astore_nN dJ9_pollFirst_15 (Nat.le_of_ble_eq_true rfl) ?_
  first | refine r_aload_n dJ9_pollFirst_16 rfl ?_ | refine r_aload_nq dJ9_pollFirst_16 rfl ?_ | refine r_aload_nN dJ9_pollFirst_16 rfl ?_
  refine r_ifnull dJ9_pollFirst_17 ?_
  first | refine r_aload_n dJ9_pollFirst_20 rfl ?_ | refine r_aload_nq dJ9_pollFirst_20 rfl ?_ | refine r_aload_nN dJ9_pollFirst_20 rfl ?_
  refine r_iload_n dJ9_pollFirst_21 rfl ?_
  refine r_null dJ9_pollFirst_22 ?_
  refine r_aastoreN (t := 3) hd (by decide) rfl dJ9_pollFirst_23 hr eh hh ?_
  first | refine r_aload_n dJ9_pollFirst_24 rfl ?_ | refine r_aload_nq dJ9_pollFirst_24 rfl ?_ | refine r_aload_nN dJ9_pollFirst_24 rfl ?_
  refine r_iload_n dJ9_pollFirst_25 rfl ?_
  first | refine r_aload_n dJ9_pollFirst_26 rfl ?_ | refine r_aload_nq dJ9_pollFirst_26 rfl ?_ | refine r_aload_nN dJ9_pollFirst_26 rfl ?_
  refine r_alenR _ (Nat.le_of_ble_eq_true rfl) dJ9_pollFirst_27 (by first | exact Or.inl (by assumption) | assumption | (refine Or.inl ?_; repeat' first | assumption | exact hu_s | refine hu_o (by assumption) ?_ | refine (hu_n (by first | assumption | exact Ne.symm (by assumption) | exact ne_o (by assumption) (by assumption) | exact Ne.symm (ne_o (by assumption) (by assumption)))).trans ?_)) rfl ?_
  refine r_invS dJ9_pollFirst_28 (sp_J9_inc hh) rfl mo_J9_inc (lkA q1090) (lkA q1091) (lkA q77) mp_J9_inc (Nat.le_of_ble_eq_true rfl) (Nat.le_of_ble_eq_true rfl) (Nat.le_of_ble_eq_true rfl) (kr_e ?_) kx_e
  refine r_put 13 1 dJ9_pollFirst_31 rfl (Nat.le_of_ble_eq_true rfl) (lkA q361) (Or.inl rfl) rfl ((hu_n ear).trans ha) (by dsimp only [List.set]) (Nat.le_of_ble_eq_true rfl) rfl rfl (by first | exact hu_hu | exact rfl) ?_
  first | refine r_aload_n dJ9_pollFirst_34 rfl ?_ | refine r_aload_nq dJ9_pollFirst_34 rfl ?_ | refine r_aload_nN dJ9_pollFirst_34 rfl ?_
  first | exact r_areturn dJ9_pollFirst_35 rfl rfl ⟨rfl, by rw [fDq_first hh (by omega), show bDq r (rg (hd + 1)) n = bO 13 [.ref r, .int (nI (rg (hd + 1))), .int (nI (rg (hd + (n + 1))))] by show bO 13 _ = _; rw [show rg (rg (hd + 1) + n) = rg (hd + (n + 1)) by unfold rg; (repeat' split) <;> omega]]⟩ | exact r_areturnq dJ9_pollFirst_35 rfl rfl ⟨rfl, by rw [fDq_first hh (by omega), show bDq r (rg (hd + 1)) n = bO 13 [.ref r, .int (nI (rg (hd + 1))), .int (nI (rg (hd + (n + 1))))] by show bO 13 _ = _; rw [show rg (rg (hd + 1) + n) = rg (hd + (n + 1)) by unfold rg; (repeat' split) <;> omega]]⟩ | exact r_areturnN dJ9_pollFirst_35 rfl rfl ⟨rfl, by rw [fDq_first hh (by omega), show bDq r (rg (hd + 1)) n = bO 13 [.ref r, .int (nI (rg (hd + 1))), .int (nI (rg (hd + (n + 1))))] by show bO 13 _ = _; rw [show rg (rg (hd + 1) + n) = rg (hd + (n + 1)) by unfold rg; (repeat' split) <;> omega]]⟩

set_option maxHeartbeats 4000000 in
set_option maxRecDepth 100000 in
theorem sp_J9_removeFirst {G : GG} {h : HP} {a r hd n : Nat} {it : Nat → Nat} (ha : h a = some (bDq r hd (n + 1))) (hr : h r = some (bDr hd (n + 1) it)) (hh : hd < 17) (hn : n ≤ 15)  : Ct G 2 0 M_J9_removeFirst [.ref a] h (eQ (some (.ref (it 0))) (hu (hu h r (bDr (rg (hd + 1)) n (fun i => it (i + 1)))) a (bDq r (rg (hd + 1)) n))) := by
  refine ct_intro my_J9_removeFirst (Nat.le_of_ble_eq_true rfl) ?_
  first | refine r_aload_n dJ9_removeFirst_0 rfl ?_ | refine r_aload_nq dJ9_removeFirst_0 rfl ?_ | refine r_aload_nN dJ9_removeFirst_0 rfl ?_
  refine r_invV dJ9_removeFirst_1 (sp_J9_pollFirst ha hr hh hn) rfl mo_J9_pollFirst (by first | exact Or.inl (by assumption) | assumption | (refine Or.inl ?_; repeat' first | assumption | exact hu_s | refine hu_o (by assumption) ?_ | refine (hu_n (by first | assumption | exact Ne.symm (by assumption) | exact ne_o (by assumption) (by assumption) | exact Ne.symm (ne_o (by assumption) (by assumption)))).trans ?_)) rfl (lkA q1116) (lkA q1117) (lkA q1118) rfl (lkA q77) mp_J9_pollFirst (Nat.le_of_ble_eq_true rfl) (Nat.le_of_ble_eq_true rfl) (Nat.le_of_ble_eq_true rfl) (kr_e ?_) kx_e
  first | refine r_astore_n dJ9_removeFirst_4 (Nat.le_of_ble_eq_true rfl) ?_ | refine r_astore_nq dJ9_removeFirst_4 (Nat.le_of_ble_eq_true rfl) ?_ | refine r_astore_nN dJ9_removeFirst_4 (Nat.le_of_ble_eq_true rfl) ?_
  first | refine r_aload_n dJ9_removeFirst_5 rfl ?_ | refine r_aload_nq dJ9_removeFirst_5 rfl ?_ | refine r_aload_nN dJ9_removeFirst_5 rfl ?_
  refine r_ifnonnull 17 dJ9_removeFirst_6 rfl ?_
  first | refine r_aload_n dJ9_removeFirst_17 rfl ?_ | refine r_aload_nq dJ9_removeFirst_17 rfl ?_ | refine r_aload_nN dJ9_removeFirst_17 rfl ?_
  first | exact r_areturn dJ9_removeFirst_18 rfl rfl (by first | exact ⟨rfl, rfl⟩ | rfl) | exact r_areturnq dJ9_removeFirst_18 rfl rfl (by first | exact ⟨rfl, rfl⟩ | rfl) | exact r_areturnN dJ9_removeFirst_18 rfl rfl (by first | exact ⟨rfl, rfl⟩ | rfl)

set_option maxHeartbeats 4000000 in
set_option maxRecDepth 100000 in
theorem sp_J9_pollLast {G : GG} {h : HP} {a r hd n : Nat} {it : Nat → Nat} (ha : h a = some (bDq r hd (n + 1))) (hr : h r = some (bDr hd (n + 1) it)) (hh : hd < 17) (hn : n ≤ 15)  : Ct G 1 0 M_J9_pollLast [.ref a] h (eQ (some (.ref (it n))) (hu (hu h r (bDr hd n it)) a (bDq r hd n))) := by
  refine ct_intro my_J9_pollLast (Nat.le_of_ble_eq_true rfl) ?_
  have ear : a ≠ r := ne_b hr ha (fun e => by cases e)
  have eh := nIn (show hd < 1000 by omega)
  have lt := rg_lt (i := hd + (n + 1)) (by omega)
  have lt2 := rg_lt (i := hd + n) (by omega)
  have e9 : rg (rg (hd + (n + 1)) + 16) = rg (hd + n) := by unfold rg; (repeat' split) <;> omega
  first | refine r_aload_n dJ9_pollLast_0 rfl ?_ | refine r_aload_nq dJ9_pollLast_0 rfl ?_ | refine r_aload_nN dJ9_pollLast_0 rfl ?_
  refine r_getfield 13 0 dJ9_pollLast_1 rfl (Nat.le_of_ble_eq_true rfl) (lkA q360) (Or.inl rfl) (by first | exact Or.inl (by assumption) | assumption | (refine Or.inl ?_; repeat' first | assumption | exact hu_s | refine hu_o (by assumption) ?_ | refine (hu_n (by first | assumption | exact Ne.symm (by assumption) | exact ne_o (by assumption) (by assumption) | exact Ne.symm (ne_o (by assumption) (by assumption)))).trans ?_)) (by rfl) ?_
  refine r_dup dJ9_pollLast_4 rfl ?_
  first | refine r_astore_n dJ9_pollLast_5 (Nat.le_of_ble_eq_true rfl) ?_ | refine r_astore_nq dJ9_pollLast_5 (Nat.le_of_ble_eq_true rfl) ?_ | refine r_astore_nN dJ9_pollLast_5 (Nat.le_of_ble_eq_true rfl) ?_
  first | refine r_aload_n dJ9_pollLast_6 rfl ?_ | refine r_aload_nq dJ9_pollLast_6 rfl ?_ | refine r_aload_nN dJ9_pollLast_6 rfl ?_
  refine r_getfield 13 2 dJ9_pollLast_7 rfl (Nat.le_of_ble_eq_true rfl) (lkA q362) (Or.inl rfl) (by first | exact Or.inl (by assumption) | assumption | (refine Or.inl ?_; repeat' first | assumption | exact hu_s | refine hu_o (by assumption) ?_ | refine (hu_n (by first | assumption | exact Ne.symm (by assumption) | exact ne_o (by assumption) (by assumption) | exact Ne.symm (ne_o (by assumption) (by assumption)))).trans ?_)) (by rfl) ?_
  first | refine r_aload_n dJ9_pollLast_10 rfl ?_ | refine r_aload_nq dJ9_pollLast_10 rfl ?_ | refine r_aload_nN dJ9_pollLast_10 rfl ?_
  refine r_alenR _ (Nat.le_of_ble_eq_true rfl) dJ9_pollLast_11 (by first | exact Or.inl (by assumption) | assumption | (refine Or.inl ?_; repeat' first | assumption | exact hu_s | refine hu_o (by assumption) ?_ | refine (hu_n (by first | assumption | exact Ne.symm (by assumption) | exact ne_o (by assumption) (by assumption) | exact Ne.symm (ne_o (by assumption) (by assumption)))).trans ?_)) rfl ?_
  refine r_invS dJ9_pollLast_12 (sp_J9_dec lt) rfl mo_J9_dec (lkA q1866) (lkA q1867) (lkA q77) mp_J9_dec (Nat.le_of_ble_eq_true rfl) (Nat.le_of_ble_eq_true rfl) (Nat.le_of_ble_eq_true rfl) (kr_e ?_) kx_e
  rw [e9]
  refine r_dup dJ9_pollLast_15 rfl ?_
  refine r_istore_n dJ9_pollLast_16 (Nat.le_of_ble_eq_true rfl) ?_
  refine r_invS dJ9_pollLast_17 (sp_J9_elementAt hr (nIn (by omega)) lt2 (fDq_at hh (Nat.lt_succ_self n) (by omega))) rfl mo_J9_elementAt (lkA q1120) (lkA q1121) (lkA q77) mp_J9_elementAt (Nat.le_of_ble_eq_true rfl) (Nat.le_of_ble_eq_true rfl) (Nat.le_of_ble_eq_true rfl) (kr_e ?_) kx_e
  first | refine r_astore_n dJ9_pollLast_20 (Nat.le_of_ble_eq_true rfl) ?_ | refine r_astore_nq dJ9_pollLast_20 (Nat.le_of_ble_eq_true rfl) ?_ | refine r_astore_nN dJ9_pollLast_20 (Nat.le_of_ble_eq_true rfl) ?_
  first | refine r_aload_n dJ9_pollLast_21 rfl ?_ | refine r_aload_nq dJ9_pollLast_21 rfl ?_ | refine r_aload_nN dJ9_pollLast_21 rfl ?_
  refine r_ifnull dJ9_pollLast_22 ?_
  first | refine r_aload_n dJ9_pollLast_25 rfl ?_ | refine r_aload_nq dJ9_pollLast_25 rfl ?_ | refine r_aload_nN dJ9_pollLast_25 rfl ?_
  first | refine r_aload_n dJ9_pollLast_26 rfl ?_ | refine r_aload_nq dJ9_pollLast_26 rfl ?_ | refine r_aload_nN dJ9_pollLast_26 rfl ?_
  refine r_iload_n dJ9_pollLast_27 rfl ?_
  refine r_dup_x1 dJ9_pollLast_28 rfl rfl ?_
  refine r_put 13 2 dJ9_pollLast_29 rfl (Nat.le_of_ble_eq_true rfl) (lkA q362) (Or.inl rfl) rfl (by repeat' first | assumption | exact hu_s | refine hu_o (by assumption) ?_ | refine (hu_n (by first | assumption | exact Ne.symm (by assumption) | exact ne_o (by assumption) (by assumption) | exact Ne.symm (ne_o (by assumption) (by assumption)))).trans ?_) (by dsimp only [List.set]) (Nat.le_of_ble_eq_true rfl) rfl rfl (by first | exact hu_hu | exact rfl) ?_
  refine r_null dJ9_pollLast_32 ?_
  refine r_aastoreN (t := 3) (rg (hd + n)) (by decide) rfl dJ9_pollLast_33 ((hu_n (Ne.symm ear)).trans hr) (nIn (by omega)) lt2 ?_
  first | refine r_aload_n dJ9_pollLast_34 rfl ?_ | refine r_aload_nq dJ9_pollLast_34 rfl ?_ | refine r_aload_nN dJ9_pollLast_34 rfl ?_
  first | exact r_areturn dJ9_pollLast_35 rfl rfl ⟨rfl, by rw [hu_c ear, fDq_last hh (by omega)]⟩ | exact r_areturnq dJ9_pollLast_35 rfl rfl ⟨rfl, by rw [hu_c ear, fDq_last hh (by omega)]⟩ | exact r_areturnN dJ9_pollLast_35 rfl rfl ⟨rfl, by rw [hu_c ear, fDq_last hh (by omega)]⟩

set_option maxHeartbeats 4000000 in
set_option maxRecDepth 100000 in
theorem sp_J9_removeLast {G : GG} {h : HP} {a r hd n : Nat} {it : Nat → Nat} (ha : h a = some (bDq r hd (n + 1))) (hr : h r = some (bDr hd (n + 1) it)) (hh : hd < 17) (hn : n ≤ 15)  : Ct G 2 0 M_J9_removeLast [.ref a] h (eQ (some (.ref (it n))) (hu (hu h r (bDr hd n it)) a (bDq r hd n))) := by
  refine ct_intro my_J9_removeLast (Nat.le_of_ble_eq_true rfl) ?_
  first | refine r_aload_n dJ9_removeLast_0 rfl ?_ | refine r_aload_nq dJ9_removeLast_0 rfl ?_ | refine r_aload_nN dJ9_removeLast_0 rfl ?_
  refine r_invV dJ9_removeLast_1 (sp_J9_pollLast ha hr hh hn) rfl mo_J9_pollLast (by first | exact Or.inl (by assumption) | assumption | (refine Or.inl ?_; repeat' first | assumption | exact hu_s | refine hu_o (by assumption) ?_ | refine (hu_n (by first | assumption | exact Ne.symm (by assumption) | exact ne_o (by assumption) (by assumption) | exact Ne.symm (ne_o (by assumption) (by assumption)))).trans ?_)) rfl (lkA q1862) (lkA q1863) (lkA q1864) rfl (lkA q77) mp_J9_pollLast (Nat.le_of_ble_eq_true rfl) (Nat.le_of_ble_eq_true rfl) (Nat.le_of_ble_eq_true rfl) (kr_e ?_) kx_e
  first | refine r_astore_n dJ9_removeLast_4 (Nat.le_of_ble_eq_true rfl) ?_ | refine r_astore_nq dJ9_removeLast_4 (Nat.le_of_ble_eq_true rfl) ?_ | refine r_astore_nN dJ9_removeLast_4 (Nat.le_of_ble_eq_true rfl) ?_
  first | refine r_aload_n dJ9_removeLast_5 rfl ?_ | refine r_aload_nq dJ9_removeLast_5 rfl ?_ | refine r_aload_nN dJ9_removeLast_5 rfl ?_
  refine r_ifnonnull 17 dJ9_removeLast_6 rfl ?_
  first | refine r_aload_n dJ9_removeLast_17 rfl ?_ | refine r_aload_nq dJ9_removeLast_17 rfl ?_ | refine r_aload_nN dJ9_removeLast_17 rfl ?_
  first | exact r_areturn dJ9_removeLast_18 rfl rfl (by first | exact ⟨rfl, rfl⟩ | rfl) | exact r_areturnq dJ9_removeLast_18 rfl rfl (by first | exact ⟨rfl, rfl⟩ | rfl) | exact r_areturnN dJ9_removeLast_18 rfl rfl (by first | exact ⟨rfl, rfl⟩ | rfl)

set_option maxHeartbeats 4000000 in
set_option maxRecDepth 100000 in
theorem clr2 {G : GG} {h : HP} {r en : Nat} (hen : en < 17) : ∀ (k i : Nat) (g : Nat → Option Nat), i + k = en → (∀ p, ¬ (i ≤ p ∧ p < en) → g p = none) → V G 0 M_J9_circularClear 12 [(1, .int (nI i)), (3, .int (nI en)), (0, .ref r), (2, .int (nI en))] [] (hu h r (bR 3 17 g)) 0 (eQ none (hu h r (bR 3 17 (fun _ => none)))) := by
  intro k
  induction k with
  | zero =>
    intro i g hk hg
    obtain rfl : i = en := by omega
    have hg0 : g = fun _ => none := funext fun p => hg p (by omega)
    subst hg0
    refine r_iload_n dJ9_circularClear_12 rfl ?_
    refine r_iload_n dJ9_circularClear_13 rfl ?_
    refine r_icmp_ge 27 dJ9_circularClear_14 rfl (fun c14 => ?_) (fun c14 => absurd c14 (fun e => e (Int32.le_refl _)))
    refine r_iload_n dJ9_circularClear_27 rfl ?_
    refine r_iload_n dJ9_circularClear_28 rfl ?_
    refine r_icmp_ne 35 dJ9_circularClear_29 rfl (fun c29 => absurd c29 (fun e => e rfl)) (fun c29 => ?_)
    refine r_goto 42 dJ9_circularClear_32 rfl ?_
    exact r_return dJ9_circularClear_42 rfl (by first | exact ⟨rfl, rfl⟩ | rfl)
  | succ k ih =>
    intro i g hk hg
    have ei := nIn (show i < 1000 by omega)
    have ee := nIn (show en < 1000 by omega)
    refine r_iload_n dJ9_circularClear_12 rfl ?_
    refine r_iload_n dJ9_circularClear_13 rfl ?_
    refine r_icmp_ge 27 dJ9_circularClear_14 rfl (fun c14 => absurd c14 (by intro hq; simp only [i32_eq, Int32.lt_iff_toInt_lt, Int32.le_iff_toInt_le, tI_add, tI_sub, tI_mul, tI_neg, Int32.reduceToInt] at hq; omega)) (fun c14 => ?_)
    first | refine r_aload_n dJ9_circularClear_17 rfl ?_ | refine r_aload_nq dJ9_circularClear_17 rfl ?_ | refine r_aload_nN dJ9_circularClear_17 rfl ?_
    refine r_iload_n dJ9_circularClear_18 rfl ?_
    refine r_null dJ9_circularClear_19 ?_
    refine r_aastoreN (t := 3) i (by decide) rfl dJ9_circularClear_20 hu_s ei (by omega) ?_
    refine r_inc 1 dJ9_circularClear_21 rfl rfl (Nat.le_of_ble_eq_true rfl) ?_
    refine r_goto 12 dJ9_circularClear_24 rfl ?_
    rw [hu_hu]
    refine V_loc (L' := [(1, .int (nI i + 1)), (3, .int (nI en)), (0, .ref r), (2, .int (nI en))]) ⟨rfl, rfl, rfl, rfl, trivial⟩ ?_
    rw [← nI_succ]
    refine ih (i + 1) _ (by omega) (fun p hp => by
      by_cases e : p = i
      · rw [e, va_up_s]
      · rw [va_up_n e]
        exact hg p (by omega))

set_option maxHeartbeats 4000000 in
set_option maxRecDepth 100000 in
theorem clr1 {G : GG} {h : HP} {r en : Nat} (hen : en < 17) : ∀ (k i : Nat) (g : Nat → Option Nat), i + k = 17 → (∀ p, ¬ (i ≤ p ∧ p < 17) → ¬ (p < en) → g p = none) → V G 0 M_J9_circularClear 12 [(1, .int (nI i)), (3, .int (nI 17)), (0, .ref r), (2, .int (nI en))] [] (hu h r (bR 3 17 g)) 0 (eQ none (hu h r (bR 3 17 (fun _ => none)))) := by
  intro k
  induction k with
  | zero =>
    intro i g hk hg
    obtain rfl : i = 17 := by omega
    refine r_iload_n dJ9_circularClear_12 rfl ?_
    refine r_iload_n dJ9_circularClear_13 rfl ?_
    refine r_icmp_ge 27 dJ9_circularClear_14 rfl (fun c14 => ?_) (fun c14 => absurd c14 (fun e => e (Int32.le_refl _)))
    refine r_iload_n dJ9_circularClear_27 rfl ?_
    refine r_iload_n dJ9_circularClear_28 rfl ?_
    refine r_icmp_ne 35 dJ9_circularClear_29 rfl (fun c29 => ?_) (fun c29 => absurd c29 (fun e => absurd (congrArg Int32.toInt e) (by rw [nIn (show 17 < 1000 by omega), nIn (show en < 1000 by omega)]; omega)))
    refine r_iconst (v := 0) dJ9_circularClear_35 rfl ?_
    refine r_istore_n dJ9_circularClear_36 (Nat.le_of_ble_eq_true rfl) ?_
    refine r_iload_n dJ9_circularClear_37 rfl ?_
    refine r_istore_n dJ9_circularClear_38 (Nat.le_of_ble_eq_true rfl) ?_
    refine r_goto 12 dJ9_circularClear_39 rfl ?_
    refine V_loc (L' := [(1, .int (nI 0)), (3, .int (nI en)), (0, .ref r), (2, .int (nI en))]) ⟨rfl, rfl, rfl, rfl, trivial⟩ ?_
    refine clr2 hen en 0 g (by omega) (fun p hp => hg p (by omega) (by omega))
  | succ k ih =>
    intro i g hk hg
    have ei := nIn (show i < 1000 by omega)
    have e17 := nIn (show 17 < 1000 by omega)
    refine r_iload_n dJ9_circularClear_12 rfl ?_
    refine r_iload_n dJ9_circularClear_13 rfl ?_
    refine r_icmp_ge 27 dJ9_circularClear_14 rfl (fun c14 => absurd c14 (by intro hq; simp only [i32_eq, Int32.lt_iff_toInt_lt, Int32.le_iff_toInt_le, tI_add, tI_sub, tI_mul, tI_neg, Int32.reduceToInt] at hq; omega)) (fun c14 => ?_)
    first | refine r_aload_n dJ9_circularClear_17 rfl ?_ | refine r_aload_nq dJ9_circularClear_17 rfl ?_ | refine r_aload_nN dJ9_circularClear_17 rfl ?_
    refine r_iload_n dJ9_circularClear_18 rfl ?_
    refine r_null dJ9_circularClear_19 ?_
    refine r_aastoreN (t := 3) i (by decide) rfl dJ9_circularClear_20 hu_s ei (by omega) ?_
    refine r_inc 1 dJ9_circularClear_21 rfl rfl (Nat.le_of_ble_eq_true rfl) ?_
    refine r_goto 12 dJ9_circularClear_24 rfl ?_
    rw [hu_hu]
    refine V_loc (L' := [(1, .int (nI i + 1)), (3, .int (nI 17)), (0, .ref r), (2, .int (nI en))]) ⟨rfl, rfl, rfl, rfl, trivial⟩ ?_
    rw [← nI_succ]
    refine ih (i + 1) _ (by omega) (fun p hp hp2 => by
      by_cases e : p = i
      · rw [e, va_up_s]
      · rw [va_up_n e]
        exact hg p (by omega) hp2)

set_option maxHeartbeats 4000000 in
set_option maxRecDepth 100000 in
theorem sp_J9_circularClear {G : GG} {h : HP} {r hd n : Nat} {it : Nat → Nat} (hr : h r = some (bDr hd n it)) (hh : hd < 17) (hn : n ≤ 16) : Ct G 0 0 M_J9_circularClear [.ref r, .int (nI hd), .int (nI (rg (hd + n)))] h (eQ none (hu h r (bR 3 17 (fun _ => none)))) := by
  refine ct_intro my_J9_circularClear (Nat.le_of_ble_eq_true rfl) ?_
  have eh := nIn (show hd < 1000 by omega)
  have lt := rg_lt (i := hd + n) (by omega)
  have et := nIn (show rg (hd + n) < 1000 by omega)
  have wr : (rg (hd + n) = hd + n) ∨ (rg (hd + n) + 17 = hd + n) := by unfold rg; split <;> omega
  refine r_iload_n dJ9_circularClear_0 rfl ?_
  refine r_iload_n dJ9_circularClear_1 rfl ?_
  refine r_icmp_gt 9 dJ9_circularClear_2 rfl (fun c2 => ?_) (fun c2 => ?_)
  · first | refine r_aload_n dJ9_circularClear_9 rfl ?_ | refine r_aload_nq dJ9_circularClear_9 rfl ?_ | refine r_aload_nN dJ9_circularClear_9 rfl ?_
    refine r_alenR _ (Nat.le_of_ble_eq_true rfl) dJ9_circularClear_10 (Or.inl hr) rfl ?_
    refine r_istore_n dJ9_circularClear_11 (Nat.le_of_ble_eq_true rfl) ?_
    rw [Int32.lt_iff_toInt_lt, eh, et] at c2
    refine V_heap (hu_same hr) ?_
    refine V_loc (L' := [(1, .int (nI hd)), (3, .int (nI 17)), (0, .ref r), (2, .int (nI (rg (hd + n))))]) ⟨rfl, rfl, rfl, rfl, trivial⟩ ?_
    exact clr1 lt (17 - hd) hd (fDq hd n it) (by omega) (fun p hp hp2 => by unfold fDq; rw [if_neg]; rintro ⟨h1, h2⟩; revert h2; unfold rg; split <;> omega)
  · refine r_iload_n dJ9_circularClear_5 rfl ?_
    refine r_goto 11 dJ9_circularClear_6 rfl ?_
    refine r_istore_n dJ9_circularClear_11 (Nat.le_of_ble_eq_true rfl) ?_
    rw [Int32.lt_iff_toInt_lt, eh, et] at c2
    refine V_heap (hu_same hr) ?_
    refine V_loc (L' := [(1, .int (nI hd)), (3, .int (nI (rg (hd + n)))), (0, .ref r), (2, .int (nI (rg (hd + n))))]) ⟨rfl, rfl, rfl, rfl, trivial⟩ ?_
    exact clr2 lt (rg (hd + n) - hd) hd (fDq hd n it) (by omega) (fun p hp => by unfold fDq; rw [if_neg]; rintro ⟨h1, h2⟩; revert h2; unfold rg; split <;> omega)

set_option maxHeartbeats 4000000 in
set_option maxRecDepth 100000 in
theorem sp_J9_clear {G : GG} {h : HP} {a r hd n : Nat} {it : Nat → Nat} (ha : h a = some (bDq r hd n)) (hr : h r = some (bDr hd n it)) (hh : hd < 17) (hn : n ≤ 16)  : Ct G 1 0 M_J9_clear [.ref a] h (eQ none (hu (hu h r (bDr 0 0 (fun _ => 0))) a (bDq r 0 0))) := by
  refine ct_intro my_J9_clear (Nat.le_of_ble_eq_true rfl) ?_
  have ear : a ≠ r := ne_b hr ha (fun e => by cases e)
  first | refine r_aload_n dJ9_clear_0 rfl ?_ | refine r_aload_nq dJ9_clear_0 rfl ?_ | refine r_aload_nN dJ9_clear_0 rfl ?_
  refine r_getfield 13 0 dJ9_clear_1 rfl (Nat.le_of_ble_eq_true rfl) (lkA q360) (Or.inl rfl) (by first | exact Or.inl (by assumption) | assumption | (refine Or.inl ?_; repeat' first | assumption | exact hu_s | refine hu_o (by assumption) ?_ | refine (hu_n (by first | assumption | exact Ne.symm (by assumption) | exact ne_o (by assumption) (by assumption) | exact Ne.symm (ne_o (by assumption) (by assumption)))).trans ?_)) (by rfl) ?_
  first | refine r_aload_n dJ9_clear_4 rfl ?_ | refine r_aload_nq dJ9_clear_4 rfl ?_ | refine r_aload_nN dJ9_clear_4 rfl ?_
  refine r_getfield 13 1 dJ9_clear_5 rfl (Nat.le_of_ble_eq_true rfl) (lkA q361) (Or.inl rfl) (by first | exact Or.inl (by assumption) | assumption | (refine Or.inl ?_; repeat' first | assumption | exact hu_s | refine hu_o (by assumption) ?_ | refine (hu_n (by first | assumption | exact Ne.symm (by assumption) | exact ne_o (by assumption) (by assumption) | exact Ne.symm (ne_o (by assumption) (by assumption)))).trans ?_)) (by rfl) ?_
  first | refine r_aload_n dJ9_clear_8 rfl ?_ | refine r_aload_nq dJ9_clear_8 rfl ?_ | refine r_aload_nN dJ9_clear_8 rfl ?_
  refine r_getfield 13 2 dJ9_clear_9 rfl (Nat.le_of_ble_eq_true rfl) (lkA q362) (Or.inl rfl) (by first | exact Or.inl (by assumption) | assumption | (refine Or.inl ?_; repeat' first | assumption | exact hu_s | refine hu_o (by assumption) ?_ | refine (hu_n (by first | assumption | exact Ne.symm (by assumption) | exact ne_o (by assumption) (by assumption) | exact Ne.symm (ne_o (by assumption) (by assumption)))).trans ?_)) (by rfl) ?_
  refine r_invS dJ9_clear_12 (sp_J9_circularClear hr hh hn) rfl mo_J9_circularClear (lkA q1881) (lkA q1882) (lkA q77) mp_J9_circularClear (Nat.le_of_ble_eq_true rfl) (Nat.le_of_ble_eq_true rfl) (Nat.le_of_ble_eq_true rfl) (kr_e ?_) kx_e
  first | refine r_aload_n dJ9_clear_15 rfl ?_ | refine r_aload_nq dJ9_clear_15 rfl ?_ | refine r_aload_nN dJ9_clear_15 rfl ?_
  first | refine r_aload_n dJ9_clear_16 rfl ?_ | refine r_aload_nq dJ9_clear_16 rfl ?_ | refine r_aload_nN dJ9_clear_16 rfl ?_
  refine r_iconst (v := 0) dJ9_clear_17 rfl ?_
  refine r_dup_x1 dJ9_clear_18 rfl rfl ?_
  refine r_put 13 2 dJ9_clear_19 rfl (Nat.le_of_ble_eq_true rfl) (lkA q362) (Or.inl rfl) rfl ((hu_n ear).trans ha) (by dsimp only [List.set]) (Nat.le_of_ble_eq_true rfl) rfl rfl (by first | exact hu_hu | exact rfl) ?_
  refine r_put 13 1 dJ9_clear_22 rfl (Nat.le_of_ble_eq_true rfl) (lkA q361) (Or.inl rfl) rfl (by repeat' first | assumption | exact hu_s | refine hu_o (by assumption) ?_ | refine (hu_n (by first | assumption | exact Ne.symm (by assumption) | exact ne_o (by assumption) (by assumption) | exact Ne.symm (ne_o (by assumption) (by assumption)))).trans ?_) (by dsimp only [List.set]) (Nat.le_of_ble_eq_true rfl) rfl rfl (by first | exact hu_hu | exact rfl) ?_
  exact r_return dJ9_clear_25 rfl ⟨rfl, by rw [bDr, fDq_z]; rfl⟩

