set_option maxRecDepth 100000
set_option maxHeartbeats 4000000 in
set_option maxRecDepth 100000 in
theorem sp_X3_in {G : GG} {h : HP} {v lo hh : Int32} : Ct G 0 0 M_X3_in [.int v, .int lo, .int hh] h (eQ (some (.int (bi (isn v lo hh)))) h) := by
  refine ct_intro my_X3_in (Nat.le_of_ble_eq_true rfl) ?_
  refine r_iload_n dX3_in_0 rfl ?_
  refine r_iload_n dX3_in_1 rfl ?_
  refine r_icmp_lt 14 dX3_in_2 rfl (fun c2 => ?_) (fun c2 => ?_)
  · refine r_iconst (v := 0) dX3_in_14 rfl ?_
    exact r_ireturn dX3_in_15 rfl (by first | rfl | exact bi_nar) (by refine ⟨?_, rfl⟩; congr 2; first | exact bi_t (isn_t.mpr (by simp only [i32_eq, Int32.lt_iff_toInt_lt, Int32.le_iff_toInt_le, tI_add, tI_sub, tI_mul, tI_neg, Int32.reduceToInt] at *; omega)) | exact bi_f (isn_f.mpr (by simp only [i32_eq, Int32.lt_iff_toInt_lt, Int32.le_iff_toInt_le, tI_add, tI_sub, tI_mul, tI_neg, Int32.reduceToInt] at *; omega)))
  · refine r_iload_n dX3_in_5 rfl ?_
    refine r_iload_n dX3_in_6 rfl ?_
    refine r_icmp_gt 14 dX3_in_7 rfl (fun c7 => ?_) (fun c7 => ?_)
    · refine r_iconst (v := 0) dX3_in_14 rfl ?_
      exact r_ireturn dX3_in_15 rfl (by first | rfl | exact bi_nar) (by refine ⟨?_, rfl⟩; congr 2; first | exact bi_t (isn_t.mpr (by simp only [i32_eq, Int32.lt_iff_toInt_lt, Int32.le_iff_toInt_le, tI_add, tI_sub, tI_mul, tI_neg, Int32.reduceToInt] at *; omega)) | exact bi_f (isn_f.mpr (by simp only [i32_eq, Int32.lt_iff_toInt_lt, Int32.le_iff_toInt_le, tI_add, tI_sub, tI_mul, tI_neg, Int32.reduceToInt] at *; omega)))
    · refine r_iconst (v := 1) dX3_in_10 rfl ?_
      refine r_goto 15 dX3_in_11 rfl ?_
      exact r_ireturn dX3_in_15 rfl (by first | rfl | exact bi_nar) (by refine ⟨?_, rfl⟩; congr 2; first | exact bi_t (isn_t.mpr (by simp only [i32_eq, Int32.lt_iff_toInt_lt, Int32.le_iff_toInt_le, tI_add, tI_sub, tI_mul, tI_neg, Int32.reduceToInt] at *; omega)) | exact bi_f (isn_f.mpr (by simp only [i32_eq, Int32.lt_iff_toInt_lt, Int32.le_iff_toInt_le, tI_add, tI_sub, tI_mul, tI_neg, Int32.reduceToInt] at *; omega)))

set_option maxHeartbeats 4000000 in
set_option maxRecDepth 100000 in
theorem sp_X3_isHouse {G : GG} {h : HP} {v : Int32} : Ct G 1 0 M_X3_isHouse [.int v] h (eQ (some (.int (bi (isH v)))) h) := by
  refine ct_intro my_X3_isHouse (Nat.le_of_ble_eq_true rfl) ?_
  refine r_iload_n dX3_isHouse_0 rfl ?_
  refine r_iconst (v := 0) dX3_isHouse_1 rfl ?_
  refine r_bipush (v := 19) dX3_isHouse_2 rfl ?_
  refine r_invS dX3_isHouse_4 (sp_X3_in ) rfl mo_X3_in (lkA q1947) (lkA q1948) (lkA q82) mp_X3_in (Nat.le_of_ble_eq_true rfl) (Nat.le_of_ble_eq_true rfl) (Nat.le_of_ble_eq_true rfl) (kr_e ?_) kx_e
  exact r_ireturn dX3_isHouse_7 rfl (by first | rfl | exact bi_nar) (by first | exact ⟨rfl, rfl⟩ | rfl)

set_option maxHeartbeats 4000000 in
set_option maxRecDepth 100000 in
theorem sp_X3_isBristle {G : GG} {h : HP} {v : Int32} : Ct G 1 0 M_X3_isBristle [.int v] h (eQ (some (.int (bi (isB v)))) h) := by
  refine ct_intro my_X3_isBristle (Nat.le_of_ble_eq_true rfl) ?_
  refine r_iload_n dX3_isBristle_0 rfl ?_
  refine r_iconst (v := 0) dX3_isBristle_1 rfl ?_
  refine r_iconst (v := 2) dX3_isBristle_2 rfl ?_
  refine r_invS dX3_isBristle_3 (sp_X3_in ) rfl mo_X3_in (lkA q1947) (lkA q1948) (lkA q82) mp_X3_in (Nat.le_of_ble_eq_true rfl) (Nat.le_of_ble_eq_true rfl) (Nat.le_of_ble_eq_true rfl) (kr_e ?_) kx_e
  exact r_ireturn dX3_isBristle_6 rfl (by first | rfl | exact bi_nar) (by first | exact ⟨rfl, rfl⟩ | rfl)

set_option maxHeartbeats 4000000 in
set_option maxRecDepth 100000 in
theorem sp_X3_steps {G : GG} {h : HP} {v : Int32} : Ct G 0 0 M_X3_steps [.int v] h (eQ (some (.int (gSteps v))) h) := by
  refine ct_intro my_X3_steps (Nat.le_of_ble_eq_true rfl) ?_
  refine r_iconst (v := 1) dX3_steps_0 rfl ?_
  refine r_iconst (v := 3) dX3_steps_1 rfl ?_
  refine r_iload_n dX3_steps_2 rfl ?_
  refine r_imul dX3_steps_3 ?_
  refine r_iconst (v := 5) dX3_steps_4 rfl ?_
  refine r_irem dX3_steps_5 (by decide) ?_
  refine r_iadd dX3_steps_6 ?_
  exact r_ireturn dX3_steps_7 rfl (by first | rfl | exact bi_nar) (by first | exact ⟨rfl, rfl⟩ | rfl)

set_option maxHeartbeats 4000000 in
set_option maxRecDepth 100000 in
theorem sp_X3_refuses {G : GG} {A : Nat → Nat} {S : Nat → Nat → Int32} {h : HP} (hi : inj 8 mdom A) {x y : Int32} : Ct G 0 0 M_X3_refuses [.ref (A 7), .int x, .int y] (ov (mdH A S) h) (eQ (some (.int (-14))) (ov (mdH A (ss (ss S 6 x) 7 y)) h)) := by
  refine ct_intro my_X3_refuses (Nat.le_of_ble_eq_true rfl) ?_
  first | refine r_aload_n dX3_refuses_0 rfl ?_ | refine r_aload_nq dX3_refuses_0 rfl ?_ | refine r_aload_nN dX3_refuses_0 rfl ?_
  refine r_iload_n dX3_refuses_1 rfl ?_
  refine r_put 3 13 dX3_refuses_2 rfl (Nat.le_of_ble_eq_true rfl) (lkA q1903) (Or.inl rfl) rfl (m_o hi) (by dsimp only [List.set]) (Nat.le_of_ble_eq_true rfl) rfl rfl (m_s6 hi) ?_
  first | refine r_aload_n dX3_refuses_5 rfl ?_ | refine r_aload_nq dX3_refuses_5 rfl ?_ | refine r_aload_nN dX3_refuses_5 rfl ?_
  refine r_iload_n dX3_refuses_6 rfl ?_
  refine r_put 3 14 dX3_refuses_7 rfl (Nat.le_of_ble_eq_true rfl) (lkA q1904) (Or.inl rfl) rfl (m_o hi) (by dsimp only [List.set]) (Nat.le_of_ble_eq_true rfl) rfl rfl (m_s7 hi) ?_
  refine r_bipush (v := (-14)) dX3_refuses_10 rfl ?_
  exact r_ireturn dX3_refuses_12 rfl (by first | rfl | exact bi_nar) (by first | exact ⟨rfl, rfl⟩ | rfl)

set_option maxHeartbeats 4000000 in
set_option maxRecDepth 100000 in
theorem sp_X3_does {G : GG} {A : Nat → Nat} {S : Nat → Nat → Int32} {h : HP} (hi : inj 8 mdom A) {x : Int32} : Ct G 0 0 M_X3_does [.ref (A 7), .int x] (ov (mdH A S) h) (eQ (some (.int 0)) (ov (mdH A (ss S 8 x)) h)) := by
  refine ct_intro my_X3_does (Nat.le_of_ble_eq_true rfl) ?_
  first | refine r_aload_n dX3_does_0 rfl ?_ | refine r_aload_nq dX3_does_0 rfl ?_ | refine r_aload_nN dX3_does_0 rfl ?_
  refine r_iload_n dX3_does_1 rfl ?_
  refine r_put 3 15 dX3_does_2 rfl (Nat.le_of_ble_eq_true rfl) (lkA q1905) (Or.inl rfl) rfl (m_o hi) (by dsimp only [List.set]) (Nat.le_of_ble_eq_true rfl) rfl rfl (m_s8 hi) ?_
  refine r_iconst (v := 0) dX3_does_5 rfl ?_
  exact r_ireturn dX3_does_6 rfl (by first | rfl | exact bi_nar) (by first | exact ⟨rfl, rfl⟩ | rfl)

set_option maxHeartbeats 4000000 in
set_option maxRecDepth 100000 in
theorem sp_X3_isSeller {G : GG} {A : Nat → Nat} {S : Nat → Nat → Int32} {h : HP} (hi : inj 8 mdom A) {x : Int32} : Ct G 1 0 M_X3_isSeller [.ref (A 7), .int x] (ov (mdH A S) h) (eQ (some (.int (bi (isS (S 0) x)))) (ov (mdH A S) h)) := by
  refine ct_intro my_X3_isSeller (Nat.le_of_ble_eq_true rfl) ?_
  refine r_iload_n dX3_isSeller_0 rfl ?_
  refine r_iconst (v := 0) dX3_isSeller_1 rfl ?_
  first | refine r_aload_n dX3_isSeller_2 rfl ?_ | refine r_aload_nq dX3_isSeller_2 rfl ?_ | refine r_aload_nN dX3_isSeller_2 rfl ?_
  refine r_getfield 3 0 dX3_isSeller_3 rfl (Nat.le_of_ble_eq_true rfl) (lkA q1890) (Or.inl rfl) (Or.inl (m_o hi)) (by rfl) ?_
  refine r_iconst (v := 2) dX3_isSeller_6 rfl ?_
  refine r_iaload (2) dX3_isSeller_7 (by first | exact Or.inl (m_a0 hi) | exact Or.inl (m_a1 hi) | exact Or.inl (m_a2 hi) | exact Or.inl (m_a3 hi) | exact Or.inl (m_a4 hi) | exact Or.inl (m_a5 hi) | exact Or.inl (m_a6 hi)) rfl (Nat.le_of_ble_eq_true rfl) rfl ?_
  refine r_iconst (v := 1) dX3_isSeller_8 rfl ?_
  refine r_isub dX3_isSeller_9 ?_
  refine r_invS dX3_isSeller_10 (sp_X3_in ) rfl mo_X3_in (lkA q1947) (lkA q1948) (lkA q82) mp_X3_in (Nat.le_of_ble_eq_true rfl) (Nat.le_of_ble_eq_true rfl) (Nat.le_of_ble_eq_true rfl) (kr_e ?_) kx_e
  exact r_ireturn dX3_isSeller_13 rfl (by first | rfl | exact bi_nar) (by first | exact ⟨rfl, rfl⟩ | rfl)

set_option maxHeartbeats 4000000 in
set_option maxRecDepth 100000 in
theorem sp_X3_of {G : GG} {A : Nat → Nat} {S : Nat → Nat → Int32} {h : HP} (hi : inj 8 mdom A) {x y : Int32} (s k : Nat) (hx : x.toInt = (s : Int)) (hy : y.toInt = (k : Int)) (hs : 17 + 9 * s + k < 413) : Ct G 0 0 M_X3_of [.ref (A 7), .int x, .int y] (ov (mdH A S) h) (eQ (some (.int (gSl (S 0) s k))) (ov (mdH A S) h)) := by
  refine ct_intro my_X3_of (Nat.le_of_ble_eq_true rfl) ?_
  first | refine r_aload_n dX3_of_0 rfl ?_ | refine r_aload_nq dX3_of_0 rfl ?_ | refine r_aload_nN dX3_of_0 rfl ?_
  refine r_getfield 3 0 dX3_of_1 rfl (Nat.le_of_ble_eq_true rfl) (lkA q1890) (Or.inl rfl) (Or.inl (m_o hi)) (by rfl) ?_
  refine r_bipush (v := 17) dX3_of_4 rfl ?_
  refine r_bipush (v := 9) dX3_of_6 rfl ?_
  refine r_iload_n dX3_of_8 rfl ?_
  refine r_imul dX3_of_9 ?_
  refine r_iadd dX3_of_10 ?_
  refine r_iload_n dX3_of_11 rfl ?_
  refine r_iadd dX3_of_12 ?_
  refine r_iaload (((17 + (9 * s)) + k)) dX3_of_13 (by first | exact Or.inl (m_a0 hi) | exact Or.inl (m_a1 hi) | exact Or.inl (m_a2 hi) | exact Or.inl (m_a3 hi) | exact Or.inl (m_a4 hi) | exact Or.inl (m_a5 hi) | exact Or.inl (m_a6 hi)) (by (try simp only [tI_add, tI_sub, tI_mul, tI_neg, Int32.reduceToInt]); omega) (by omega) rfl ?_
  exact r_ireturn dX3_of_14 rfl (by first | rfl | exact bi_nar) (by first | exact ⟨rfl, rfl⟩ | rfl)

set_option maxHeartbeats 4000000 in
set_option maxRecDepth 100000 in
theorem sp_X3_adds {G : GG} {A : Nat → Nat} {S : Nat → Nat → Int32} {h : HP} (hi : inj 8 mdom A) {x y z : Int32} (s k : Nat) (hx : x.toInt = (s : Int)) (hy : y.toInt = (k : Int)) (hs : 17 + 9 * s + k < 413) : Ct G 0 0 M_X3_adds [.ref (A 7), .int x, .int y, .int z] (ov (mdH A S) h) (eQ none (ov (mdH A (sa S 0 (upd (S 0) (17 + 9 * s + k) (S 0 (17 + 9 * s + k) + z)))) h)) := by
  refine ct_intro my_X3_adds (Nat.le_of_ble_eq_true rfl) ?_
  first | refine r_aload_n dX3_adds_0 rfl ?_ | refine r_aload_nq dX3_adds_0 rfl ?_ | refine r_aload_nN dX3_adds_0 rfl ?_
  refine r_getfield 3 0 dX3_adds_1 rfl (Nat.le_of_ble_eq_true rfl) (lkA q1890) (Or.inl rfl) (Or.inl (m_o hi)) (by rfl) ?_
  refine r_bipush (v := 17) dX3_adds_4 rfl ?_
  refine r_bipush (v := 9) dX3_adds_6 rfl ?_
  refine r_iload_n dX3_adds_8 rfl ?_
  refine r_imul dX3_adds_9 ?_
  refine r_iadd dX3_adds_10 ?_
  refine r_iload_n dX3_adds_11 rfl ?_
  refine r_iadd dX3_adds_12 ?_
  refine r_dup2 dX3_adds_13 rfl rfl ?_
  refine r_iaload (((17 + (9 * s)) + k)) dX3_adds_14 (by first | exact Or.inl (m_a0 hi) | exact Or.inl (m_a1 hi) | exact Or.inl (m_a2 hi) | exact Or.inl (m_a3 hi) | exact Or.inl (m_a4 hi) | exact Or.inl (m_a5 hi) | exact Or.inl (m_a6 hi)) (by (try simp only [tI_add, tI_sub, tI_mul, tI_neg, Int32.reduceToInt]); omega) (by omega) rfl ?_
  refine r_iload_n dX3_adds_15 rfl ?_
  refine r_iadd dX3_adds_16 ?_
  refine r_iastore (((17 + (9 * s)) + k)) dX3_adds_17 (m_a0 hi) (by (try simp only [tI_add, tI_sub, tI_mul, tI_neg, Int32.reduceToInt]); omega) (by omega) ?_
  rw [m_w0 hi]
  exact r_return dX3_adds_18 rfl (by first | exact ⟨rfl, rfl⟩ | rfl)

set_option maxHeartbeats 4000000 in
set_option maxRecDepth 100000 in
theorem sp_X3_mood {G : GG} {A : Nat → Nat} {S : Nat → Nat → Int32} {h : HP} (hi : inj 8 mdom A) {x : Int32} (k : Nat) (hx : x.toInt = (k : Int)) (hs : k < 20) : Ct G 0 0 M_X3_mood [.ref (A 7), .int x] (ov (mdH A S) h) (eQ (some (.int (gMd (S 0) k))) (ov (mdH A S) h)) := by
  refine ct_intro my_X3_mood (Nat.le_of_ble_eq_true rfl) ?_
  first | refine r_aload_n dX3_mood_0 rfl ?_ | refine r_aload_nq dX3_mood_0 rfl ?_ | refine r_aload_nN dX3_mood_0 rfl ?_
  refine r_getfield 3 0 dX3_mood_1 rfl (Nat.le_of_ble_eq_true rfl) (lkA q1890) (Or.inl rfl) (Or.inl (m_o hi)) (by rfl) ?_
  refine r_bipush (v := 53) dX3_mood_4 rfl ?_
  refine r_iconst (v := 4) dX3_mood_6 rfl ?_
  refine r_iload_n dX3_mood_7 rfl ?_
  refine r_imul dX3_mood_8 ?_
  refine r_iadd dX3_mood_9 ?_
  refine r_iconst (v := 1) dX3_mood_10 rfl ?_
  refine r_iadd dX3_mood_11 ?_
  refine r_iaload (((53 + (4 * k)) + 1)) dX3_mood_12 (by first | exact Or.inl (m_a0 hi) | exact Or.inl (m_a1 hi) | exact Or.inl (m_a2 hi) | exact Or.inl (m_a3 hi) | exact Or.inl (m_a4 hi) | exact Or.inl (m_a5 hi) | exact Or.inl (m_a6 hi)) (by (try simp only [tI_add, tI_sub, tI_mul, tI_neg, Int32.reduceToInt]); omega) (by omega) rfl ?_
  refine r_iconst (v := 1) dX3_mood_13 rfl ?_
  refine r_isub dX3_mood_14 ?_
  exact r_ireturn dX3_mood_15 rfl (by first | rfl | exact bi_nar) (by first | exact ⟨rfl, rfl⟩ | rfl)

set_option maxHeartbeats 4000000 in
set_option maxRecDepth 100000 in
theorem sp_X3_temper {G : GG} {A : Nat → Nat} {S : Nat → Nat → Int32} {h : HP} (hi : inj 8 mdom A) {x : Int32} (k : Nat) (hx : x.toInt = (k : Int)) (hs : k < 20) : Ct G 0 0 M_X3_temper [.ref (A 7), .int x] (ov (mdH A S) h) (eQ (some (.int (gTm (S 0) k))) (ov (mdH A S) h)) := by
  refine ct_intro my_X3_temper (Nat.le_of_ble_eq_true rfl) ?_
  first | refine r_aload_n dX3_temper_0 rfl ?_ | refine r_aload_nq dX3_temper_0 rfl ?_ | refine r_aload_nN dX3_temper_0 rfl ?_
  refine r_getfield 3 0 dX3_temper_1 rfl (Nat.le_of_ble_eq_true rfl) (lkA q1890) (Or.inl rfl) (Or.inl (m_o hi)) (by rfl) ?_
  refine r_bipush (v := 53) dX3_temper_4 rfl ?_
  refine r_iconst (v := 4) dX3_temper_6 rfl ?_
  refine r_iload_n dX3_temper_7 rfl ?_
  refine r_imul dX3_temper_8 ?_
  refine r_iadd dX3_temper_9 ?_
  refine r_iaload ((53 + (4 * k))) dX3_temper_10 (by first | exact Or.inl (m_a0 hi) | exact Or.inl (m_a1 hi) | exact Or.inl (m_a2 hi) | exact Or.inl (m_a3 hi) | exact Or.inl (m_a4 hi) | exact Or.inl (m_a5 hi) | exact Or.inl (m_a6 hi)) (by (try simp only [tI_add, tI_sub, tI_mul, tI_neg, Int32.reduceToInt]); omega) (by omega) rfl ?_
  exact r_ireturn dX3_temper_11 rfl (by first | rfl | exact bi_nar) (by first | exact ⟨rfl, rfl⟩ | rfl)

set_option maxHeartbeats 4000000 in
set_option maxRecDepth 100000 in
theorem sp_X3_calms {G : GG} {A : Nat → Nat} {S : Nat → Nat → Int32} {h : HP} (hi : inj 8 mdom A) {x y : Int32} (k : Nat) (hx : x.toInt = (k : Int)) (hs : k < 20) : Ct G 1 0 M_X3_calms [.ref (A 7), .int x, .int y] (ov (mdH A S) h) (eQ none (ov (mdH A (sa S 0 (gCalm (S 0) k y))) h)) := by
  refine ct_intro my_X3_calms (Nat.le_of_ble_eq_true rfl) ?_
  first | refine r_aload_n dX3_calms_0 rfl ?_ | refine r_aload_nq dX3_calms_0 rfl ?_ | refine r_aload_nN dX3_calms_0 rfl ?_
  refine r_getfield 3 0 dX3_calms_1 rfl (Nat.le_of_ble_eq_true rfl) (lkA q1890) (Or.inl rfl) (Or.inl (m_o hi)) (by rfl) ?_
  refine r_bipush (v := 53) dX3_calms_4 rfl ?_
  refine r_iconst (v := 4) dX3_calms_6 rfl ?_
  refine r_iload_n dX3_calms_7 rfl ?_
  refine r_imul dX3_calms_8 ?_
  refine r_iadd dX3_calms_9 ?_
  refine r_iconst (v := 0) dX3_calms_10 rfl ?_
  refine r_bipush (v := 9) dX3_calms_11 rfl ?_
  first | refine r_aload_n dX3_calms_13 rfl ?_ | refine r_aload_nq dX3_calms_13 rfl ?_ | refine r_aload_nN dX3_calms_13 rfl ?_
  refine r_iload_n dX3_calms_14 rfl ?_
  refine r_invV dX3_calms_15 (sp_X3_temper hi k hx hs) rfl mo_X3_temper (Or.inl (m_o hi)) rfl (lkA q2023) (lkA q2025) (lkA qs42) rfl (lkA q82) mp_X3_temper (Nat.le_of_ble_eq_true rfl) (Nat.le_of_ble_eq_true rfl) (Nat.le_of_ble_eq_true rfl) (kr_e ?_) kx_e
  refine r_iload_n dX3_calms_18 rfl ?_
  refine r_iadd dX3_calms_19 ?_
  refine r_mmin dX3_calms_20 (lkA q2082) (lkA q290) (lkA q74) (lkA q291) (Nat.le_of_ble_eq_true rfl) (Nat.le_of_ble_eq_true rfl) ?_
  refine r_mmax dX3_calms_23 (lkA q2060) (lkA q248) (lkA q74) (lkA q249) (Nat.le_of_ble_eq_true rfl) (Nat.le_of_ble_eq_true rfl) ?_
  refine r_iastore ((53 + (4 * k))) dX3_calms_26 (m_a0 hi) (by (try simp only [tI_add, tI_sub, tI_mul, tI_neg, Int32.reduceToInt]); omega) (by omega) ?_
  rw [m_w0 hi]
  exact r_return dX3_calms_27 rfl (by first | exact ⟨rfl, rfl⟩ | rfl)

set_option maxHeartbeats 4000000 in
set_option maxRecDepth 100000 in
theorem sp_X3_left {G : GG} {A : Nat → Nat} {S : Nat → Nat → Int32} {h : HP} (hi : inj 8 mdom A)  : Ct G 0 0 M_X3_left [.ref (A 7)] (ov (mdH A S) h) (eQ (some (.int (gLeft (S 0)))) (ov (mdH A S) h)) := by
  refine ct_intro my_X3_left (Nat.le_of_ble_eq_true rfl) ?_
  refine r_sipush (v := 480) dX3_left_0 rfl ?_
  first | refine r_aload_n dX3_left_3 rfl ?_ | refine r_aload_nq dX3_left_3 rfl ?_ | refine r_aload_nN dX3_left_3 rfl ?_
  refine r_getfield 3 0 dX3_left_4 rfl (Nat.le_of_ble_eq_true rfl) (lkA q1890) (Or.inl rfl) (Or.inl (m_o hi)) (by rfl) ?_
  refine r_iconst (v := 1) dX3_left_7 rfl ?_
  refine r_iaload (1) dX3_left_8 (by first | exact Or.inl (m_a0 hi) | exact Or.inl (m_a1 hi) | exact Or.inl (m_a2 hi) | exact Or.inl (m_a3 hi) | exact Or.inl (m_a4 hi) | exact Or.inl (m_a5 hi) | exact Or.inl (m_a6 hi)) rfl (Nat.le_of_ble_eq_true rfl) rfl ?_
  refine r_isub dX3_left_9 ?_
  exact r_ireturn dX3_left_10 rfl (by first | rfl | exact bi_nar) (by first | exact ⟨rfl, rfl⟩ | rfl)

