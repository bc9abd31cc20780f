set_option maxRecDepth 100000
theorem sa_sa {S : Nat → Nat → Int32} {k : Nat} {f g : Nat → Int32} : sa (sa S k f) k g = sa S k g := by
  funext i
  unfold sa
  by_cases e : i = k
  · rw [if_pos e, if_pos e]
  · rw [if_neg e, if_neg e, if_neg e]
theorem sa_s {S : Nat → Nat → Int32} {k : Nat} {f : Nat → Int32} : sa S k f k = f := by simp [sa]
theorem sa_n {S : Nat → Nat → Int32} {k j : Nat} {f : Nat → Int32} (h : j ≠ k) : sa S k f j = S j := by simp [sa, h]
theorem sa_id {S : Nat → Nat → Int32} {k : Nat} : sa S k (S k) = S := by
  funext i
  unfold sa
  by_cases e : i = k
  · rw [if_pos e, e]
  · rw [if_neg e]
theorem sa_cm {S : Nat → Nat → Int32} {k j : Nat} {f g : Nat → Int32} (h : j ≠ k) : sa (sa S k f) j g = sa (sa S j g) k f := by
  funext i
  unfold sa
  by_cases e : i = k
  · by_cases e2 : i = j
    · exact absurd (e2.symm.trans e) h
    · rw [if_neg e2, if_pos e, if_pos e]
  · by_cases e2 : i = j
    · rw [if_pos e2, if_neg e, if_pos e2]
    · rw [if_neg e2, if_neg e, if_neg e, if_neg e2]
/-- the first n of f, the rest of g -/
def cpN (n : Nat) (f g : Nat → Int32) : Nat → Int32 := fun k => if k < n then f k else g k
theorem cpN_0 {f g : Nat → Int32} : cpN 0 f g = g := by funext k; simp [cpN]
theorem cpN_s {n : Nat} {f g : Nat → Int32} : upd (cpN n f g) n (f n) = cpN (n + 1) f g := by
  funext k
  simp only [upd, cpN]
  by_cases e : k = n
  · subst e
    rw [if_pos rfl, if_pos (Nat.lt_succ_self _)]
  · rw [if_neg e]
    by_cases e2 : k < n
    · rw [if_pos e2, if_pos (by omega)]
    · rw [if_neg e2, if_neg (by omega)]
def mShift (n : Nat) (f : Nat → Int32) : Nat → Int32 := fun j => if j < n then f (413 + j) else f j
def mPut (n : Nat) (f g : Nat → Int32) (u : Nat) : Nat → Int32 := fun j => if 413 * u ≤ j ∧ j < 413 * u + n then g (j - 413 * u) else f j
theorem mShift_0 {f : Nat → Int32} : mShift 0 f = f := by funext k; simp [mShift]
theorem mShift_s {n : Nat} {f : Nat → Int32} : upd (mShift n f) n (mShift n f (413 + n)) = mShift (n + 1) f := by
  funext k
  simp only [upd, mShift]
  rw [if_neg (show ¬ 413 + n < n by omega)]
  by_cases e : k = n
  · subst e
    rw [if_pos rfl, if_pos (Nat.lt_succ_self _)]
  · rw [if_neg e]
    by_cases e2 : k < n
    · rw [if_pos e2, if_pos (by omega)]
    · rw [if_neg e2, if_neg (by omega)]
theorem mPut_0 {f g : Nat → Int32} {u : Nat} : mPut 0 f g u = f := by
  funext k
  simp only [mPut]
  rw [if_neg (by omega)]
theorem mPut_s {n u : Nat} {f g : Nat → Int32} : upd (mPut n f g u) (413 * u + n) (g n) = mPut (n + 1) f g u := by
  funext k
  simp only [upd, mPut]
  by_cases e : k = 413 * u + n
  · subst e
    rw [if_pos rfl, if_pos (by omega), show 413 * u + n - 413 * u = n by omega]
  · rw [if_neg e]
    by_cases e2 : 413 * u ≤ k ∧ k < 413 * u + n
    · rw [if_pos e2, if_pos (by omega)]
    · rw [if_neg e2, if_neg (by omega)]
def mGet (f : Nat → Int32) (u : Nat) : Nat → Int32 := fun j => f (413 * u + j)

set_option maxHeartbeats 4000000 in
set_option maxRecDepth 100000 in
theorem sp_X3_tries {G : GG} {A : Nat → Nat} {S : Nat → Nat → Int32} {h : HP} (hi : inj 8 mdom A)  : Ct G 0 0 M_X3_tries [.ref (A 7)] (ov (mdH A S) h) (eQ none (ov (mdH A (sa S 1 (cpN 413 (S 0) (S 1)))) h)) := by
  refine ct_intro my_X3_tries (Nat.le_of_ble_eq_true rfl) ?_
  have loop : ∀ (n i : Nat) (x : Int32), x.toInt = (i : Int) → i + n = 413 → V G 0 M_X3_tries 2 [(1, .int x), (0, .ref (A 7))] [] (ov (mdH A (sa S 1 (cpN i (S 0) (S 1)))) h) 0 (eQ none (ov (mdH A (sa S 1 (cpN 413 (S 0) (S 1)))) h)) := by
    intro n
    induction n with
    | zero =>
      intro i x hx hn
      have hN : i = 413 := by omega
      subst hN
      refine r_iload_n dX3_tries_2 rfl ?_
      refine r_sipush (v := 413) dX3_tries_3 rfl ?_
      refine r_icmp_ge 27 dX3_tries_6 rfl (fun c6 => ?_) (fun c6 => absurd c6 (by intro hq; simp only [i32_eq, Int32.lt_iff_toInt_lt, Int32.le_iff_toInt_le, tI_add, tI_sub, tI_mul, tI_neg, Int32.reduceToInt] at hq; omega))
      exact r_return dX3_tries_27 rfl (by first | exact ⟨rfl, rfl⟩ | rfl)
    | succ n ih =>
      intro i x hx hn
      refine r_iload_n dX3_tries_2 rfl ?_
      refine r_sipush (v := 413) dX3_tries_3 rfl ?_
      refine r_icmp_ge 27 dX3_tries_6 rfl (fun c6 => absurd c6 (by intro hq; simp only [i32_eq, Int32.lt_iff_toInt_lt, Int32.le_iff_toInt_le, tI_add, tI_sub, tI_mul, tI_neg, Int32.reduceToInt] at hq; omega)) (fun c6 => ?_)
      first | refine r_aload_n dX3_tries_9 rfl ?_ | refine r_aload_nq dX3_tries_9 rfl ?_ | refine r_aload_nN dX3_tries_9 rfl ?_
      refine r_getfield 3 1 dX3_tries_10 rfl (Nat.le_of_ble_eq_true rfl) (lkA q1891) (Or.inl rfl) (Or.inl (m_o hi)) (by rfl) ?_
      refine r_iload_n dX3_tries_13 rfl ?_
      first | refine r_aload_n dX3_tries_14 rfl ?_ | refine r_aload_nq dX3_tries_14 rfl ?_ | refine r_aload_nN dX3_tries_14 rfl ?_
      refine r_getfield 3 0 dX3_tries_15 rfl (Nat.le_of_ble_eq_true rfl) (lkA q1890) (Or.inl rfl) (Or.inl (m_o hi)) (by rfl) ?_
      refine r_iload_n dX3_tries_18 rfl ?_
      refine r_iaload (i) dX3_tries_19 (by first | exact Or.inl (m_a0 hi) | exact Or.inl (m_a1 hi) | exact Or.inl (m_a2 hi) | exact Or.inl (m_a3 hi) | exact Or.inl (m_a4 hi) | exact Or.inl (m_a5 hi) | exact Or.inl (m_a6 hi)) (by (try simp only [tI_add, tI_sub, tI_mul, tI_neg, Int32.reduceToInt]); omega) (by omega) rfl ?_
      refine r_iastore (i) dX3_tries_20 (m_a1 hi) (by (try simp only [tI_add, tI_sub, tI_mul, tI_neg, Int32.reduceToInt]); omega) (by omega) ?_
      rw [m_w1 hi]
      refine r_inc 1 dX3_tries_21 rfl rfl (Nat.le_of_ble_eq_true rfl) ?_
      refine r_goto 2 dX3_tries_24 rfl ?_
      simp only [sa_sa, sa_s]
      rw [show (sa S 1 (cpN i (S 0) (S 1))) 0 = S 0 from rfl, cpN_s]
      exact ih (i + 1) _ (by (try simp only [tI_add, tI_sub, tI_mul, tI_neg, Int32.reduceToInt]); omega) (by omega)
  refine r_iconst (v := 0) dX3_tries_0 rfl ?_
  refine r_istore_n dX3_tries_1 (Nat.le_of_ble_eq_true rfl) ?_
  have hz := loop 413 0 0 rfl rfl
  rw [cpN_0, sa_id] at hz
  exact hz

set_option maxHeartbeats 4000000 in
set_option maxRecDepth 100000 in
theorem sp_X3_comesBack {G : GG} {A : Nat → Nat} {S : Nat → Nat → Int32} {h : HP} (hi : inj 8 mdom A)  : Ct G 0 0 M_X3_comesBack [.ref (A 7)] (ov (mdH A S) h) (eQ none (ov (mdH A (sa S 0 (cpN 413 (S 1) (S 0)))) h)) := by
  refine ct_intro my_X3_comesBack (Nat.le_of_ble_eq_true rfl) ?_
  have loop : ∀ (n i : Nat) (x : Int32), x.toInt = (i : Int) → i + n = 413 → V G 0 M_X3_comesBack 2 [(1, .int x), (0, .ref (A 7))] [] (ov (mdH A (sa S 0 (cpN i (S 1) (S 0)))) h) 0 (eQ none (ov (mdH A (sa S 0 (cpN 413 (S 1) (S 0)))) h)) := by
    intro n
    induction n with
    | zero =>
      intro i x hx hn
      have hN : i = 413 := by omega
      subst hN
      refine r_iload_n dX3_comesBack_2 rfl ?_
      refine r_sipush (v := 413) dX3_comesBack_3 rfl ?_
      refine r_icmp_ge 27 dX3_comesBack_6 rfl (fun c6 => ?_) (fun c6 => absurd c6 (by intro hq; simp only [i32_eq, Int32.lt_iff_toInt_lt, Int32.le_iff_toInt_le, tI_add, tI_sub, tI_mul, tI_neg, Int32.reduceToInt] at hq; omega))
      exact r_return dX3_comesBack_27 rfl (by first | exact ⟨rfl, rfl⟩ | rfl)
    | succ n ih =>
      intro i x hx hn
      refine r_iload_n dX3_comesBack_2 rfl ?_
      refine r_sipush (v := 413) dX3_comesBack_3 rfl ?_
      refine r_icmp_ge 27 dX3_comesBack_6 rfl (fun c6 => absurd c6 (by intro hq; simp only [i32_eq, Int32.lt_iff_toInt_lt, Int32.le_iff_toInt_le, tI_add, tI_sub, tI_mul, tI_neg, Int32.reduceToInt] at hq; omega)) (fun c6 => ?_)
      first | refine r_aload_n dX3_comesBack_9 rfl ?_ | refine r_aload_nq dX3_comesBack_9 rfl ?_ | refine r_aload_nN dX3_comesBack_9 rfl ?_
      refine r_getfield 3 0 dX3_comesBack_10 rfl (Nat.le_of_ble_eq_true rfl) (lkA q1890) (Or.inl rfl) (Or.inl (m_o hi)) (by rfl) ?_
      refine r_iload_n dX3_comesBack_13 rfl ?_
      first | refine r_aload_n dX3_comesBack_14 rfl ?_ | refine r_aload_nq dX3_comesBack_14 rfl ?_ | refine r_aload_nN dX3_comesBack_14 rfl ?_
      refine r_getfield 3 1 dX3_comesBack_15 rfl (Nat.le_of_ble_eq_true rfl) (lkA q1891) (Or.inl rfl) (Or.inl (m_o hi)) (by rfl) ?_
      refine r_iload_n dX3_comesBack_18 rfl ?_
      refine r_iaload (i) dX3_comesBack_19 (by first | exact Or.inl (m_a0 hi) | exact Or.inl (m_a1 hi) | exact Or.inl (m_a2 hi) | exact Or.inl (m_a3 hi) | exact Or.inl (m_a4 hi) | exact Or.inl (m_a5 hi) | exact Or.inl (m_a6 hi)) (by (try simp only [tI_add, tI_sub, tI_mul, tI_neg, Int32.reduceToInt]); omega) (by omega) rfl ?_
      refine r_iastore (i) dX3_comesBack_20 (m_a0 hi) (by (try simp only [tI_add, tI_sub, tI_mul, tI_neg, Int32.reduceToInt]); omega) (by omega) ?_
      rw [m_w0 hi]
      refine r_inc 1 dX3_comesBack_21 rfl rfl (Nat.le_of_ble_eq_true rfl) ?_
      refine r_goto 2 dX3_comesBack_24 rfl ?_
      simp only [sa_sa, sa_s]
      rw [show (sa S 0 (cpN i (S 1) (S 0))) 1 = S 1 from rfl, cpN_s]
      exact ih (i + 1) _ (by (try simp only [tI_add, tI_sub, tI_mul, tI_neg, Int32.reduceToInt]); omega) (by omega)
  refine r_iconst (v := 0) dX3_comesBack_0 rfl ?_
  refine r_istore_n dX3_comesBack_1 (Nat.le_of_ble_eq_true rfl) ?_
  have hz := loop 413 0 0 rfl rfl
  rw [cpN_0, sa_id] at hz
  exact hz

set_option maxHeartbeats 4000000 in
set_option maxRecDepth 100000 in
theorem keeps_2 {G : GG} {A : Nat → Nat} {S : Nat → Nat → Int32} {h : HP} (hi : inj 8 mdom A) {r : Int32} (u : Nat) (hu : (S 7 0).toInt = (u : Int)) (hu8 : u < 8) : V G 0 M_X3_keeps 52 [(2, .int 0), (0, .ref (A 7)), (1, .int r)] [] (ov (mdH A S) h) 0 (eQ (some (.int r)) (ov (mdH A (ss (sa S 2 (mPut 413 (S 2) (S 1) u)) 0 (S 7 0 + 1))) h)) := by
  have loop : ∀ (n i : Nat) (x : Int32), x.toInt = (i : Int) → i + n = 413 → V G 0 M_X3_keeps 52 [(2, .int x), (0, .ref (A 7)), (1, .int r)] [] (ov (mdH A (sa S 2 (mPut i (S 2) (S 1) u))) h) 0 (eQ (some (.int r)) (ov (mdH A (ss (sa S 2 (mPut 413 (S 2) (S 1) u)) 0 (S 7 0 + 1))) h)) := by
    intro n
    induction n with
    | zero =>
      intro i x hx hn
      have hN : i = 413 := by omega
      subst hN
      refine r_iload_n dX3_keeps_52 rfl ?_
      refine r_sipush (v := 413) dX3_keeps_53 rfl ?_
      refine r_icmp_ge 86 dX3_keeps_56 rfl (fun c56 => ?_) (fun c56 => absurd c56 (by intro hq; simp only [i32_eq, Int32.lt_iff_toInt_lt, Int32.le_iff_toInt_le, tI_add, tI_sub, tI_mul, tI_neg, Int32.reduceToInt] at hq; omega))
      first | refine r_aload_n dX3_keeps_86 rfl ?_ | refine r_aload_nq dX3_keeps_86 rfl ?_ | refine r_aload_nN dX3_keeps_86 rfl ?_
      refine r_dup dX3_keeps_87 rfl ?_
      refine r_getfield 3 3 dX3_keeps_88 rfl (Nat.le_of_ble_eq_true rfl) (lkA q1893) (Or.inl rfl) (Or.inl (m_o hi)) (by rfl) ?_
      refine r_iconst (v := 1) dX3_keeps_91 rfl ?_
      refine r_iadd dX3_keeps_92 ?_
      refine r_put 3 3 dX3_keeps_93 rfl (Nat.le_of_ble_eq_true rfl) (lkA q1893) (Or.inl rfl) rfl (m_o hi) (by dsimp only [List.set]) (Nat.le_of_ble_eq_true rfl) rfl rfl (m_s0 hi) ?_
      refine r_iload_n dX3_keeps_96 rfl ?_
      exact r_ireturn dX3_keeps_97 rfl (by first | rfl | exact bi_nar) (by first | exact ⟨rfl, rfl⟩ | rfl)
    | succ n ih =>
      intro i x hx hn
      refine r_iload_n dX3_keeps_52 rfl ?_
      refine r_sipush (v := 413) dX3_keeps_53 rfl ?_
      refine r_icmp_ge 86 dX3_keeps_56 rfl (fun c56 => absurd c56 (by intro hq; simp only [i32_eq, Int32.lt_iff_toInt_lt, Int32.le_iff_toInt_le, tI_add, tI_sub, tI_mul, tI_neg, Int32.reduceToInt] at hq; omega)) (fun c56 => ?_)
      first | refine r_aload_n dX3_keeps_59 rfl ?_ | refine r_aload_nq dX3_keeps_59 rfl ?_ | refine r_aload_nN dX3_keeps_59 rfl ?_
      refine r_getfield 3 2 dX3_keeps_60 rfl (Nat.le_of_ble_eq_true rfl) (lkA q1892) (Or.inl rfl) (Or.inl (m_o hi)) (by rfl) ?_
      refine r_sipush (v := 413) dX3_keeps_63 rfl ?_
      first | refine r_aload_n dX3_keeps_66 rfl ?_ | refine r_aload_nq dX3_keeps_66 rfl ?_ | refine r_aload_nN dX3_keeps_66 rfl ?_
      refine r_getfield 3 3 dX3_keeps_67 rfl (Nat.le_of_ble_eq_true rfl) (lkA q1893) (Or.inl rfl) (Or.inl (m_o hi)) (by rfl) ?_
      refine r_imul dX3_keeps_70 ?_
      have hu9 : ((sa S 2 (mPut i (S 2) (S 1) u)) 7 0).toInt = (u : Int) := hu
      refine r_iload_n dX3_keeps_71 rfl ?_
      refine r_iadd dX3_keeps_72 ?_
      first | refine r_aload_n dX3_keeps_73 rfl ?_ | refine r_aload_nq dX3_keeps_73 rfl ?_ | refine r_aload_nN dX3_keeps_73 rfl ?_
      refine r_getfield 3 1 dX3_keeps_74 rfl (Nat.le_of_ble_eq_true rfl) (lkA q1891) (Or.inl rfl) (Or.inl (m_o hi)) (by rfl) ?_
      refine r_iload_n dX3_keeps_77 rfl ?_
      refine r_iaload (i) dX3_keeps_78 (by first | exact Or.inl (m_a0 hi) | exact Or.inl (m_a1 hi) | exact Or.inl (m_a2 hi) | exact Or.inl (m_a3 hi) | exact Or.inl (m_a4 hi) | exact Or.inl (m_a5 hi) | exact Or.inl (m_a6 hi)) (by (try simp only [tI_add, tI_sub, tI_mul, tI_neg, Int32.reduceToInt]); omega) (by omega) rfl ?_
      refine r_iastore (((413 * u) + i)) dX3_keeps_79 (m_a2 hi) (by (try simp only [tI_add, tI_sub, tI_mul, tI_neg, Int32.reduceToInt]); omega) (by omega) ?_
      rw [m_w2 hi]
      refine r_inc 1 dX3_keeps_80 rfl rfl (Nat.le_of_ble_eq_true rfl) ?_
      refine r_goto 52 dX3_keeps_83 rfl ?_
      simp only [sa_sa, sa_s]
      rw [show (sa S 2 (mPut i (S 2) (S 1) u)) 1 = S 1 from rfl, mPut_s]
      exact ih (i + 1) _ (by (try simp only [tI_add, tI_sub, tI_mul, tI_neg, Int32.reduceToInt]); omega) (by omega)
  have hz := loop 413 0 0 rfl rfl
  rw [mPut_0, sa_id] at hz
  exact hz

set_option maxHeartbeats 4000000 in
set_option maxRecDepth 100000 in
theorem keeps_1 {G : GG} {A : Nat → Nat} {S : Nat → Nat → Int32} {h : HP} (hi : inj 8 mdom A) {r : Int32} (hu : S 7 0 = 8) : V G 0 M_X3_keeps 11 [(2, .int 0), (0, .ref (A 7)), (1, .int r)] [] (ov (mdH A S) h) 0 (eQ (some (.int r)) (ov (mdH A (ss (sa (ss (sa S 2 (mShift 2891 (S 2))) 0 (S 7 0 - 1)) 2 (mPut 413 (mShift 2891 (S 2)) (S 1) 7)) 0 (S 7 0 - 1 + 1))) h)) := by
  have loop : ∀ (n i : Nat) (x : Int32), x.toInt = (i : Int) → i + n = 2891 → V G 0 M_X3_keeps 11 [(2, .int x), (0, .ref (A 7)), (1, .int r)] [] (ov (mdH A (sa S 2 (mShift i (S 2)))) h) 0 (eQ (some (.int r)) (ov (mdH A (ss (sa (ss (sa S 2 (mShift 2891 (S 2))) 0 (S 7 0 - 1)) 2 (mPut 413 (mShift 2891 (S 2)) (S 1) 7)) 0 (S 7 0 - 1 + 1))) h)) := by
    intro n
    induction n with
    | zero =>
      intro i x hx hn
      have hN : i = 2891 := by omega
      subst hN
      refine r_iload_n dX3_keeps_11 rfl ?_
      refine r_sipush (v := 2891) dX3_keeps_12 rfl ?_
      refine r_icmp_ge 40 dX3_keeps_15 rfl (fun c15 => ?_) (fun c15 => absurd c15 (by intro hq; simp only [i32_eq, Int32.lt_iff_toInt_lt, Int32.le_iff_toInt_le, tI_add, tI_sub, tI_mul, tI_neg, Int32.reduceToInt] at hq; omega))
      first | refine r_aload_n dX3_keeps_40 rfl ?_ | refine r_aload_nq dX3_keeps_40 rfl ?_ | refine r_aload_nN dX3_keeps_40 rfl ?_
      refine r_dup dX3_keeps_41 rfl ?_
      refine r_getfield 3 3 dX3_keeps_42 rfl (Nat.le_of_ble_eq_true rfl) (lkA q1893) (Or.inl rfl) (Or.inl (m_o hi)) (by rfl) ?_
      refine r_iconst (v := 1) dX3_keeps_45 rfl ?_
      refine r_isub dX3_keeps_46 ?_
      refine r_put 3 3 dX3_keeps_47 rfl (Nat.le_of_ble_eq_true rfl) (lkA q1893) (Or.inl rfl) rfl (m_o hi) (by dsimp only [List.set]) (Nat.le_of_ble_eq_true rfl) rfl rfl (m_s0 hi) ?_
      refine r_iconst (v := 0) dX3_keeps_50 rfl ?_
      refine r_istore_n dX3_keeps_51 (Nat.le_of_ble_eq_true rfl) ?_
      exact keeps_2 hi 7 (by show (S 7 0 - 1).toInt = 7; rw [hu]; rfl) (by decide)
    | succ n ih =>
      intro i x hx hn
      refine r_iload_n dX3_keeps_11 rfl ?_
      refine r_sipush (v := 2891) dX3_keeps_12 rfl ?_
      refine r_icmp_ge 40 dX3_keeps_15 rfl (fun c15 => absurd c15 (by intro hq; simp only [i32_eq, Int32.lt_iff_toInt_lt, Int32.le_iff_toInt_le, tI_add, tI_sub, tI_mul, tI_neg, Int32.reduceToInt] at hq; omega)) (fun c15 => ?_)
      first | refine r_aload_n dX3_keeps_18 rfl ?_ | refine r_aload_nq dX3_keeps_18 rfl ?_ | refine r_aload_nN dX3_keeps_18 rfl ?_
      refine r_getfield 3 2 dX3_keeps_19 rfl (Nat.le_of_ble_eq_true rfl) (lkA q1892) (Or.inl rfl) (Or.inl (m_o hi)) (by rfl) ?_
      refine r_iload_n dX3_keeps_22 rfl ?_
      first | refine r_aload_n dX3_keeps_23 rfl ?_ | refine r_aload_nq dX3_keeps_23 rfl ?_ | refine r_aload_nN dX3_keeps_23 rfl ?_
      refine r_getfield 3 2 dX3_keeps_24 rfl (Nat.le_of_ble_eq_true rfl) (lkA q1892) (Or.inl rfl) (Or.inl (m_o hi)) (by rfl) ?_
      refine r_sipush (v := 413) dX3_keeps_27 rfl ?_
      refine r_iload_n dX3_keeps_30 rfl ?_
      refine r_iadd dX3_keeps_31 ?_
      refine r_iaload ((413 + i)) dX3_keeps_32 (by first | exact Or.inl (m_a0 hi) | exact Or.inl (m_a1 hi) | exact Or.inl (m_a2 hi) | exact Or.inl (m_a3 hi) | exact Or.inl (m_a4 hi) | exact Or.inl (m_a5 hi) | exact Or.inl (m_a6 hi)) (by (try simp only [tI_add, tI_sub, tI_mul, tI_neg, Int32.reduceToInt]); omega) (by omega) rfl ?_
      refine r_iastore (i) dX3_keeps_33 (m_a2 hi) (by (try simp only [tI_add, tI_sub, tI_mul, tI_neg, Int32.reduceToInt]); omega) (by omega) ?_
      rw [m_w2 hi]
      refine r_inc 1 dX3_keeps_34 rfl rfl (Nat.le_of_ble_eq_true rfl) ?_
      refine r_goto 11 dX3_keeps_37 rfl ?_
      simp only [sa_sa, sa_s]
      rw [mShift_s]
      exact ih (i + 1) _ (by (try simp only [tI_add, tI_sub, tI_mul, tI_neg, Int32.reduceToInt]); omega) (by omega)
  have hz := loop 2891 0 0 rfl rfl
  rw [mShift_0, sa_id] at hz
  exact hz

def mKeepU (S : Nat → Nat → Int32) : Int32 := if S 7 0 = 8 then S 7 0 - 1 + 1 else S 7 0 + 1
def mKeepA (S : Nat → Nat → Int32) : Nat → Int32 := if S 7 0 = 8 then mPut 413 (mShift 2891 (S 2)) (S 1) 7 else mPut 413 (S 2) (S 1) (tn (S 7 0))
theorem ss_sa2 {S : Nat → Nat → Int32} {f : Nat → Int32} {v : Int32} : ss (sa S 2 f) 0 v = sa (ss S 0 v) 2 f := by
  unfold ss
  rw [show (sa S 2 f) 7 = S 7 from rfl, sa_cm (by decide)]
theorem ss_ss {S : Nat → Nat → Int32} {k : Nat} {v u : Int32} : ss (ss S k v) k u = ss S k u := by
  unfold ss
  rw [sa_s, sa_sa]
  congr 1
  funext i
  simp only [upd]
  by_cases e : i = k
  · rw [if_pos e, if_pos e]
  · rw [if_neg e, if_neg e, if_neg e]
set_option maxHeartbeats 4000000 in
set_option maxRecDepth 100000 in
theorem sp_X3_keeps {G : GG} {A : Nat → Nat} {S : Nat → Nat → Int32} {h : HP} (hi : inj 8 mdom A) {r : Int32} (u : Nat) (hu : (S 7 0).toInt = (u : Int)) (hu8 : u ≤ 8)  : Ct G 0 0 M_X3_keeps [.ref (A 7), .int r] (ov (mdH A S) h) (eQ (some (.int r)) (ov (mdH A (ss (sa S 2 (mKeepA S)) 0 (mKeepU S))) h)) := by
  refine ct_intro my_X3_keeps (Nat.le_of_ble_eq_true rfl) ?_
  first | refine r_aload_n dX3_keeps_0 rfl ?_ | refine r_aload_nq dX3_keeps_0 rfl ?_ | refine r_aload_nN dX3_keeps_0 rfl ?_
  refine r_getfield 3 3 dX3_keeps_1 rfl (Nat.le_of_ble_eq_true rfl) (lkA q1893) (Or.inl rfl) (Or.inl (m_o hi)) (by rfl) ?_
  refine r_bipush (v := 8) dX3_keeps_4 rfl ?_
  refine r_icmp_ne 50 dX3_keeps_6 rfl (fun c6 => ?_) (fun c6 => ?_)
  · refine r_iconst (v := 0) dX3_keeps_50 rfl ?_
    refine r_istore_n dX3_keeps_51 (Nat.le_of_ble_eq_true rfl) ?_
    rw [show mKeepA S = mPut 413 (S 2) (S 1) (tn (S 7 0)) from if_neg c6, show mKeepU S = S 7 0 + 1 from if_neg c6]
    rw [show tn (S 7 0) = u by unfold tn; omega]
    exact keeps_2 hi u hu (by have h8 : ¬ u = 8 := (fun e => c6 (by rw [i32_eq, hu, e]; rfl)); omega)
  · refine r_iconst (v := 0) dX3_keeps_9 rfl ?_
    refine r_istore_n dX3_keeps_10 (Nat.le_of_ble_eq_true rfl) ?_
    rw [show mKeepA S = mPut 413 (mShift 2891 (S 2)) (S 1) 7 from if_pos c6, show mKeepU S = S 7 0 - 1 + 1 from if_pos c6]
    have hz := keeps_1 (G := G) (A := A) (S := S) (h := h) (r := r) hi c6
    rw [ss_sa2, ss_sa2, ss_sa2, sa_sa, ss_ss] at hz
    rw [ss_sa2]
    exact hz

set_option maxHeartbeats 4000000 in
set_option maxRecDepth 100000 in
theorem undo_2 {G : GG} {A : Nat → Nat} {S : Nat → Nat → Int32} {h : HP} (hi : inj 8 mdom A) (u : Nat) (hu : (S 7 0).toInt = (u : Int)) (hu8 : u < 8) : V G 0 M_X3_undo 22 [(1, .int 0), (0, .ref (A 7))] [] (ov (mdH A S) h) 0 (eQ (some (.int (S 7 0))) (ov (mdH A (sa S 0 (cpN 413 (mGet (S 2) u) (S 0)))) h)) := by
  have loop : ∀ (n i : Nat) (x : Int32), x.toInt = (i : Int) → i + n = 413 → V G 0 M_X3_undo 22 [(1, .int x), (0, .ref (A 7))] [] (ov (mdH A (sa S 0 (cpN i (mGet (S 2) u) (S 0)))) h) 0 (eQ (some (.int (S 7 0))) (ov (mdH A (sa S 0 (cpN 413 (mGet (S 2) u) (S 0)))) h)) := by
    intro n
    induction n with
    | zero =>
      intro i x hx hn
      have hN : i = 413 := by omega
      subst hN
      refine r_iload_n dX3_undo_22 rfl ?_
      refine r_sipush (v := 413) dX3_undo_23 rfl ?_
      refine r_icmp_ge 56 dX3_undo_26 rfl (fun c26 => ?_) (fun c26 => absurd c26 (by intro hq; simp only [i32_eq, Int32.lt_iff_toInt_lt, Int32.le_iff_toInt_le, tI_add, tI_sub, tI_mul, tI_neg, Int32.reduceToInt] at hq; omega))
      first | refine r_aload_n dX3_undo_56 rfl ?_ | refine r_aload_nq dX3_undo_56 rfl ?_ | refine r_aload_nN dX3_undo_56 rfl ?_
      refine r_getfield 3 3 dX3_undo_57 rfl (Nat.le_of_ble_eq_true rfl) (lkA q1893) (Or.inl rfl) (Or.inl (m_o hi)) (by rfl) ?_
      exact r_ireturn dX3_undo_60 rfl (by first | rfl | exact bi_nar) (by first | exact ⟨rfl, rfl⟩ | rfl)
    | succ n ih =>
      intro i x hx hn
      refine r_iload_n dX3_undo_22 rfl ?_
      refine r_sipush (v := 413) dX3_undo_23 rfl ?_
      refine r_icmp_ge 56 dX3_undo_26 rfl (fun c26 => absurd c26 (by intro hq; simp only [i32_eq, Int32.lt_iff_toInt_lt, Int32.le_iff_toInt_le, tI_add, tI_sub, tI_mul, tI_neg, Int32.reduceToInt] at hq; omega)) (fun c26 => ?_)
      first | refine r_aload_n dX3_undo_29 rfl ?_ | refine r_aload_nq dX3_undo_29 rfl ?_ | refine r_aload_nN dX3_undo_29 rfl ?_
      refine r_getfield 3 0 dX3_undo_30 rfl (Nat.le_of_ble_eq_true rfl) (lkA q1890) (Or.inl rfl) (Or.inl (m_o hi)) (by rfl) ?_
      refine r_iload_n dX3_undo_33 rfl ?_
      first | refine r_aload_n dX3_undo_34 rfl ?_ | refine r_aload_nq dX3_undo_34 rfl ?_ | refine r_aload_nN dX3_undo_34 rfl ?_
      refine r_getfield 3 2 dX3_undo_35 rfl (Nat.le_of_ble_eq_true rfl) (lkA q1892) (Or.inl rfl) (Or.inl (m_o hi)) (by rfl) ?_
      refine r_sipush (v := 413) dX3_undo_38 rfl ?_
      first | refine r_aload_n dX3_undo_41 rfl ?_ | refine r_aload_nq dX3_undo_41 rfl ?_ | refine r_aload_nN dX3_undo_41 rfl ?_
      refine r_getfield 3 3 dX3_undo_42 rfl (Nat.le_of_ble_eq_true rfl) (lkA q1893) (Or.inl rfl) (Or.inl (m_o hi)) (by rfl) ?_
      have hu9 : ((sa S 0 (cpN i (mGet (S 2) u) (S 0))) 7 0).toInt = (u : Int) := hu
      refine r_imul dX3_undo_45 ?_
      refine r_iload_n dX3_undo_46 rfl ?_
      refine r_iadd dX3_undo_47 ?_
      refine r_iaload (((413 * u) + i)) dX3_undo_48 (by first | exact Or.inl (m_a0 hi) | exact Or.inl (m_a1 hi) | exact Or.inl (m_a2 hi) | exact Or.inl (m_a3 hi) | exact Or.inl (m_a4 hi) | exact Or.inl (m_a5 hi) | exact Or.inl (m_a6 hi)) (by (try simp only [tI_add, tI_sub, tI_mul, tI_neg, Int32.reduceToInt]); omega) (by omega) rfl ?_
      refine r_iastore (i) dX3_undo_49 (m_a0 hi) (by (try simp only [tI_add, tI_sub, tI_mul, tI_neg, Int32.reduceToInt]); omega) (by omega) ?_
      rw [m_w0 hi]
      refine r_inc 1 dX3_undo_50 rfl rfl (Nat.le_of_ble_eq_true rfl) ?_
      refine r_goto 22 dX3_undo_53 rfl ?_
      simp only [sa_sa, sa_s]
      rw [show (sa S 0 (cpN i (mGet (S 2) u) (S 0))) 2 (413 * u + i) = mGet (S 2) u i from rfl, cpN_s]
      exact ih (i + 1) _ (by (try simp only [tI_add, tI_sub, tI_mul, tI_neg, Int32.reduceToInt]); omega) (by omega)
  have hz := loop 413 0 0 rfl rfl
  rw [cpN_0, sa_id] at hz
  exact hz

set_option maxHeartbeats 4000000 in
set_option maxRecDepth 100000 in
theorem sp_X3_undo {G : GG} {A : Nat → Nat} {S : Nat → Nat → Int32} {h : HP} (hi : inj 8 mdom A) (u : Nat) (hu : (S 7 0).toInt = (u : Int)) (hu8 : u ≤ 8) : Ct G 0 0 M_X3_undo [.ref (A 7)] (ov (mdH A S) h) (eQ (some (.int (if S 7 0 = 0 then -15 else S 7 0 - 1))) (ov (mdH A (if S 7 0 = 0 then S else sa (ss S 0 (S 7 0 - 1)) 0 (cpN 413 (mGet (S 2) (tn (S 7 0 - 1))) (S 0)))) h)) := by
  refine ct_intro my_X3_undo (Nat.le_of_ble_eq_true rfl) ?_
  first | refine r_aload_n dX3_undo_0 rfl ?_ | refine r_aload_nq dX3_undo_0 rfl ?_ | refine r_aload_nN dX3_undo_0 rfl ?_
  refine r_getfield 3 3 dX3_undo_1 rfl (Nat.le_of_ble_eq_true rfl) (lkA q1893) (Or.inl rfl) (Or.inl (m_o hi)) (by rfl) ?_
  refine r_if_ne 10 dX3_undo_4 rfl (fun c4 => ?_) (fun c4 => ?_)
  · first | refine r_aload_n dX3_undo_10 rfl ?_ | refine r_aload_nq dX3_undo_10 rfl ?_ | refine r_aload_nN dX3_undo_10 rfl ?_
    refine r_dup dX3_undo_11 rfl ?_
    refine r_getfield 3 3 dX3_undo_12 rfl (Nat.le_of_ble_eq_true rfl) (lkA q1893) (Or.inl rfl) (Or.inl (m_o hi)) (by rfl) ?_
    refine r_iconst (v := 1) dX3_undo_15 rfl ?_
    refine r_isub dX3_undo_16 ?_
    refine r_put 3 3 dX3_undo_17 rfl (Nat.le_of_ble_eq_true rfl) (lkA q1893) (Or.inl rfl) rfl (m_o hi) (by dsimp only [List.set]) (Nat.le_of_ble_eq_true rfl) rfl rfl (m_s0 hi) ?_
    refine r_iconst (v := 0) dX3_undo_20 rfl ?_
    refine r_istore_n dX3_undo_21 (Nat.le_of_ble_eq_true rfl) ?_
    have hz := undo_2 (G := G) (S := ss S 0 (S 7 0 - 1)) (h := h) hi (u - 1) (by show (S 7 0 - 1).toInt = _; have h0 : ¬ u = 0 := (fun e => c4 (by rw [i32_eq, hu, e]; rfl)); simp only [tI_sub, Int32.reduceToInt]; omega) (by omega)
    rw [if_neg c4, if_neg c4]
    rw [show tn (S 7 0 - 1) = u - 1 by have h0 : ¬ u = 0 := (fun e => c4 (by rw [i32_eq, hu, e]; rfl)); simp only [tn, tI_sub, Int32.reduceToInt]; omega]
    exact hz
  · refine r_bipush (v := (-15)) dX3_undo_7 rfl ?_
    exact r_ireturn dX3_undo_9 rfl (by first | rfl | exact bi_nar) (by rw [if_pos c4]; exact ⟨rfl, by rw [if_pos c4]⟩)

set_option maxHeartbeats 4000000 in
set_option maxRecDepth 100000 in
theorem save_2 {G : GG} {A : Nat → Nat} {S : Nat → Nat → Int32} {h : HP} (hi : inj 8 mdom A)  : V G 0 M_X3_save 7 [(1, .int 0), (0, .ref (A 7))] [] (ov (mdH A S) h) 0 (eQ (some (.int (S 0 2))) (ov (mdH A (sa S 3 (cpN 413 (S 0) (S 3)))) h)) := by
  have loop : ∀ (n i : Nat) (x : Int32), x.toInt = (i : Int) → i + n = 413 → V G 0 M_X3_save 7 [(1, .int x), (0, .ref (A 7))] [] (ov (mdH A (sa S 3 (cpN i (S 0) (S 3)))) h) 0 (eQ (some (.int (S 0 2))) (ov (mdH A (sa S 3 (cpN 413 (S 0) (S 3)))) h)) := by
    intro n
    induction n with
    | zero =>
      intro i x hx hn
      have hN : i = 413 := by omega
      subst hN
      refine r_iload_n dX3_save_7 rfl ?_
      refine r_sipush (v := 413) dX3_save_8 rfl ?_
      refine r_icmp_ge 32 dX3_save_11 rfl (fun c11 => ?_) (fun c11 => absurd c11 (by intro hq; simp only [i32_eq, Int32.lt_iff_toInt_lt, Int32.le_iff_toInt_le, tI_add, tI_sub, tI_mul, tI_neg, Int32.reduceToInt] at hq; omega))
      first | refine r_aload_n dX3_save_32 rfl ?_ | refine r_aload_nq dX3_save_32 rfl ?_ | refine r_aload_nN dX3_save_32 rfl ?_
      refine r_getfield 3 0 dX3_save_33 rfl (Nat.le_of_ble_eq_true rfl) (lkA q1890) (Or.inl rfl) (Or.inl (m_o hi)) (by rfl) ?_
      refine r_iconst (v := 2) dX3_save_36 rfl ?_
      refine r_iaload (2) dX3_save_37 (by first | exact Or.inl (m_a0 hi) | exact Or.inl (m_a1 hi) | exact Or.inl (m_a2 hi) | exact Or.inl (m_a3 hi) | exact Or.inl (m_a4 hi) | exact Or.inl (m_a5 hi) | exact Or.inl (m_a6 hi)) rfl (Nat.le_of_ble_eq_true rfl) rfl ?_
      exact r_ireturn dX3_save_38 rfl (by first | rfl | exact bi_nar) (by first | exact ⟨rfl, rfl⟩ | rfl)
    | succ n ih =>
      intro i x hx hn
      refine r_iload_n dX3_save_7 rfl ?_
      refine r_sipush (v := 413) dX3_save_8 rfl ?_
      refine r_icmp_ge 32 dX3_save_11 rfl (fun c11 => absurd c11 (by intro hq; simp only [i32_eq, Int32.lt_iff_toInt_lt, Int32.le_iff_toInt_le, tI_add, tI_sub, tI_mul, tI_neg, Int32.reduceToInt] at hq; omega)) (fun c11 => ?_)
      first | refine r_aload_n dX3_save_14 rfl ?_ | refine r_aload_nq dX3_save_14 rfl ?_ | refine r_aload_nN dX3_save_14 rfl ?_
      refine r_getfield 3 4 dX3_save_15 rfl (Nat.le_of_ble_eq_true rfl) (lkA q1894) (Or.inl rfl) (Or.inl (m_o hi)) (by rfl) ?_
      refine r_iload_n dX3_save_18 rfl ?_
      first | refine r_aload_n dX3_save_19 rfl ?_ | refine r_aload_nq dX3_save_19 rfl ?_ | refine r_aload_nN dX3_save_19 rfl ?_
      refine r_getfield 3 0 dX3_save_20 rfl (Nat.le_of_ble_eq_true rfl) (lkA q1890) (Or.inl rfl) (Or.inl (m_o hi)) (by rfl) ?_
      refine r_iload_n dX3_save_23 rfl ?_
      refine r_iaload (i) dX3_save_24 (by first | exact Or.inl (m_a0 hi) | exact Or.inl (m_a1 hi) | exact Or.inl (m_a2 hi) | exact Or.inl (m_a3 hi) | exact Or.inl (m_a4 hi) | exact Or.inl (m_a5 hi) | exact Or.inl (m_a6 hi)) (by (try simp only [tI_add, tI_sub, tI_mul, tI_neg, Int32.reduceToInt]); omega) (by omega) rfl ?_
      refine r_iastore (i) dX3_save_25 (m_a3 hi) (by (try simp only [tI_add, tI_sub, tI_mul, tI_neg, Int32.reduceToInt]); omega) (by omega) ?_
      rw [m_w3 hi]
      refine r_inc 1 dX3_save_26 rfl rfl (Nat.le_of_ble_eq_true rfl) ?_
      refine r_goto 7 dX3_save_29 rfl ?_
      simp only [sa_sa, sa_s]
      rw [show (sa S 3 (cpN i (S 0) (S 3))) 0 = S 0 from rfl, cpN_s]
      exact ih (i + 1) _ (by (try simp only [tI_add, tI_sub, tI_mul, tI_neg, Int32.reduceToInt]); omega) (by omega)
  have hz := loop 413 0 0 rfl rfl
  rw [cpN_0, sa_id] at hz
  exact hz

set_option maxHeartbeats 4000000 in
set_option maxRecDepth 100000 in
theorem sp_X3_save {G : GG} {A : Nat → Nat} {S : Nat → Nat → Int32} {h : HP} (hi : inj 8 mdom A)  : Ct G 0 0 M_X3_save [.ref (A 7)] (ov (mdH A S) h) (eQ (some (.int (S 0 2))) (ov (mdH A (sa (ss S 1 1) 3 (cpN 413 (S 0) (S 3)))) h)) := by
  refine ct_intro my_X3_save (Nat.le_of_ble_eq_true rfl) ?_
  first | refine r_aload_n dX3_save_0 rfl ?_ | refine r_aload_nq dX3_save_0 rfl ?_ | refine r_aload_nN dX3_save_0 rfl ?_
  refine r_iconst (v := 1) dX3_save_1 rfl ?_
  refine r_put 3 5 dX3_save_2 rfl (Nat.le_of_ble_eq_true rfl) (lkA q1895) (Or.inl rfl) rfl (m_o hi) (by dsimp only [List.set]) (Nat.le_of_ble_eq_true rfl) rfl rfl (m_s1 hi) ?_
  refine r_iconst (v := 0) dX3_save_5 rfl ?_
  refine r_istore_n dX3_save_6 (Nat.le_of_ble_eq_true rfl) ?_
  exact save_2 hi

set_option maxHeartbeats 4000000 in
set_option maxRecDepth 100000 in
theorem restore_2 {G : GG} {A : Nat → Nat} {S : Nat → Nat → Int32} {h : HP} (hi : inj 8 mdom A)  : V G 0 M_X3_restore 12 [(1, .int 0), (0, .ref (A 7))] [] (ov (mdH A S) h) 0 (eQ (some (.int (cpN 413 (S 3) (S 0) 2))) (ov (mdH A (ss (sa S 0 (cpN 413 (S 3) (S 0))) 0 0)) h)) := by
  have loop : ∀ (n i : Nat) (x : Int32), x.toInt = (i : Int) → i + n = 413 → V G 0 M_X3_restore 12 [(1, .int x), (0, .ref (A 7))] [] (ov (mdH A (sa S 0 (cpN i (S 3) (S 0)))) h) 0 (eQ (some (.int (cpN 413 (S 3) (S 0) 2))) (ov (mdH A (ss (sa S 0 (cpN 413 (S 3) (S 0))) 0 0)) h)) := by
    intro n
    induction n with
    | zero =>
      intro i x hx hn
      have hN : i = 413 := by omega
      subst hN
      refine r_iload_n dX3_restore_12 rfl ?_
      refine r_sipush (v := 413) dX3_restore_13 rfl ?_
      refine r_icmp_ge 37 dX3_restore_16 rfl (fun c16 => ?_) (fun c16 => absurd c16 (by intro hq; simp only [i32_eq, Int32.lt_iff_toInt_lt, Int32.le_iff_toInt_le, tI_add, tI_sub, tI_mul, tI_neg, Int32.reduceToInt] at hq; omega))
      first | refine r_aload_n dX3_restore_37 rfl ?_ | refine r_aload_nq dX3_restore_37 rfl ?_ | refine r_aload_nN dX3_restore_37 rfl ?_
      refine r_iconst (v := 0) dX3_restore_38 rfl ?_
      refine r_put 3 3 dX3_restore_39 rfl (Nat.le_of_ble_eq_true rfl) (lkA q1893) (Or.inl rfl) rfl (m_o hi) (by dsimp only [List.set]) (Nat.le_of_ble_eq_true rfl) rfl rfl (m_s0 hi) ?_
      first | refine r_aload_n dX3_restore_42 rfl ?_ | refine r_aload_nq dX3_restore_42 rfl ?_ | refine r_aload_nN dX3_restore_42 rfl ?_
      refine r_getfield 3 0 dX3_restore_43 rfl (Nat.le_of_ble_eq_true rfl) (lkA q1890) (Or.inl rfl) (Or.inl (m_o hi)) (by rfl) ?_
      refine r_iconst (v := 2) dX3_restore_46 rfl ?_
      refine r_iaload (2) dX3_restore_47 (by first | exact Or.inl (m_a0 hi) | exact Or.inl (m_a1 hi) | exact Or.inl (m_a2 hi) | exact Or.inl (m_a3 hi) | exact Or.inl (m_a4 hi) | exact Or.inl (m_a5 hi) | exact Or.inl (m_a6 hi)) rfl (Nat.le_of_ble_eq_true rfl) rfl ?_
      exact r_ireturn dX3_restore_48 rfl (by first | rfl | exact bi_nar) (by first | exact ⟨rfl, rfl⟩ | rfl)
    | succ n ih =>
      intro i x hx hn
      refine r_iload_n dX3_restore_12 rfl ?_
      refine r_sipush (v := 413) dX3_restore_13 rfl ?_
      refine r_icmp_ge 37 dX3_restore_16 rfl (fun c16 => absurd c16 (by intro hq; simp only [i32_eq, Int32.lt_iff_toInt_lt, Int32.le_iff_toInt_le, tI_add, tI_sub, tI_mul, tI_neg, Int32.reduceToInt] at hq; omega)) (fun c16 => ?_)
      first | refine r_aload_n dX3_restore_19 rfl ?_ | refine r_aload_nq dX3_restore_19 rfl ?_ | refine r_aload_nN dX3_restore_19 rfl ?_
      refine r_getfield 3 0 dX3_restore_20 rfl (Nat.le_of_ble_eq_true rfl) (lkA q1890) (Or.inl rfl) (Or.inl (m_o hi)) (by rfl) ?_
      refine r_iload_n dX3_restore_23 rfl ?_
      first | refine r_aload_n dX3_restore_24 rfl ?_ | refine r_aload_nq dX3_restore_24 rfl ?_ | refine r_aload_nN dX3_restore_24 rfl ?_
      refine r_getfield 3 4 dX3_restore_25 rfl (Nat.le_of_ble_eq_true rfl) (lkA q1894) (Or.inl rfl) (Or.inl (m_o hi)) (by rfl) ?_
      refine r_iload_n dX3_restore_28 rfl ?_
      refine r_iaload (i) dX3_restore_29 (by first | exact Or.inl (m_a0 hi) | exact Or.inl (m_a1 hi) | exact Or.inl (m_a2 hi) | exact Or.inl (m_a3 hi) | exact Or.inl (m_a4 hi) | exact Or.inl (m_a5 hi) | exact Or.inl (m_a6 hi)) (by (try simp only [tI_add, tI_sub, tI_mul, tI_neg, Int32.reduceToInt]); omega) (by omega) rfl ?_
      refine r_iastore (i) dX3_restore_30 (m_a0 hi) (by (try simp only [tI_add, tI_sub, tI_mul, tI_neg, Int32.reduceToInt]); omega) (by omega) ?_
      rw [m_w0 hi]
      refine r_inc 1 dX3_restore_31 rfl rfl (Nat.le_of_ble_eq_true rfl) ?_
      refine r_goto 12 dX3_restore_34 rfl ?_
      simp only [sa_sa, sa_s]
      rw [show (sa S 0 (cpN i (S 3) (S 0))) 3 = S 3 from rfl, cpN_s]
      exact ih (i + 1) _ (by (try simp only [tI_add, tI_sub, tI_mul, tI_neg, Int32.reduceToInt]); omega) (by omega)
  have hz := loop 413 0 0 rfl rfl
  rw [cpN_0, sa_id] at hz
  exact hz

set_option maxHeartbeats 4000000 in
set_option maxRecDepth 100000 in
theorem sp_X3_restore {G : GG} {A : Nat → Nat} {S : Nat → Nat → Int32} {h : HP} (hi : inj 8 mdom A)  : Ct G 0 0 M_X3_restore [.ref (A 7)] (ov (mdH A S) h) (eQ (some (.int (if S 7 1 = 0 then -15 else S 3 2))) (ov (mdH A (if S 7 1 = 0 then S else ss (sa S 0 (cpN 413 (S 3) (S 0))) 0 0)) h)) := by
  refine ct_intro my_X3_restore (Nat.le_of_ble_eq_true rfl) ?_
  first | refine r_aload_n dX3_restore_0 rfl ?_ | refine r_aload_nq dX3_restore_0 rfl ?_ | refine r_aload_nN dX3_restore_0 rfl ?_
  refine r_getfield 3 5 dX3_restore_1 rfl (Nat.le_of_ble_eq_true rfl) (lkA q1895) (Or.inl rfl) (Or.inl (m_o hi)) (by rfl) ?_
  refine r_if_ne 10 dX3_restore_4 rfl (fun c4 => ?_) (fun c4 => ?_)
  · refine r_iconst (v := 0) dX3_restore_10 rfl ?_
    refine r_istore_n dX3_restore_11 (Nat.le_of_ble_eq_true rfl) ?_
    rw [if_neg c4, if_neg c4]
    exact restore_2 hi
  · refine r_bipush (v := (-15)) dX3_restore_7 rfl ?_
    exact r_ireturn dX3_restore_9 rfl (by first | rfl | exact bi_nar) (by rw [if_pos c4]; exact ⟨rfl, by rw [if_pos c4]⟩)

