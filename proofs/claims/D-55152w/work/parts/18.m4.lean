set_option maxRecDepth 100000
set_option maxHeartbeats 4000000 in
set_option maxRecDepth 100000 in
theorem seller_2 {G : GG} {A : Nat → Nat} {S : Nat → Nat → Int32} {h : HP} (hi : inj 8 mdom A) {y : Int32} {r : OpR} (s : Nat) (hs : (S 0 2).toInt = (s : Int)) (hs4 : s < 4) (u : Nat) (hu : (S 7 0).toInt = (u : Int)) (hu8 : u ≤ 8) (htn : tn (S 0 2) = s) (hr : r = oK (S 0 2) (gNew (S 0) y)) : V G 2 M_X3_seller 48 [(3, .int 0), (2, .int (S 0 2)), (0, .ref (A 7)), (1, .int y)] [] (ov (mdH A (sa (sa S 1 (cpN 413 (S 0) (S 1))) 0 (upd (S 0) 2 (S 0 2 + 1)))) h) 0 (mPubQ A S h r) := by
  have loop : ∀ (n i : Nat) (x : Int32), x.toInt = (i : Int) → i + n = 9 → V G 2 M_X3_seller 48 [(3, .int x), (2, .int (S 0 2)), (0, .ref (A 7)), (1, .int y)] [] (ov (mdH A (sa (sa S 1 (cpN 413 (S 0) (S 1))) 0 (gZ (upd (S 0) 2 (S 0 2 + 1)) s i))) h) 0 (mPubQ A S h r) := by
    intro n
    induction n with
    | zero =>
      intro i x hx hn
      have hN : i = 9 := by omega
      subst hN
      refine r_iload_n dX3_seller_48 rfl ?_
      refine r_bipush (v := 9) dX3_seller_49 rfl ?_
      refine r_icmp_ge 75 dX3_seller_51 rfl (fun c51 => ?_) (fun c51 => absurd c51 (by intro hq; simp only [i32_eq, Int32.lt_iff_toInt_lt, Int32.le_iff_toInt_le, tI_add, tI_sub, tI_mul, tI_neg, Int32.reduceToInt] at hq; omega))
      first | refine r_aload_n dX3_seller_75 rfl ?_ | refine r_aload_nq dX3_seller_75 rfl ?_ | refine r_aload_nN dX3_seller_75 rfl ?_
      refine r_getfield 3 0 dX3_seller_76 rfl (Nat.le_of_ble_eq_true rfl) (lkA q1890) (Or.inl rfl) (Or.inl (m_o hi)) (by rfl) ?_
      refine r_bipush (v := 17) dX3_seller_79 rfl ?_
      refine r_bipush (v := 9) dX3_seller_81 rfl ?_
      refine r_iload_n dX3_seller_83 rfl ?_
      refine r_imul dX3_seller_84 ?_
      refine r_iadd dX3_seller_85 ?_
      refine r_iload_n dX3_seller_86 rfl ?_
      refine r_iastore (17 + 9 * s) dX3_seller_87 (m_a0 hi) (by (try simp only [tI_add, tI_sub, tI_mul, tI_neg, Int32.reduceToInt]); omega) (by omega) ?_
      rw [m_w0 hi]
      rw [sa_sa, sa_s, gNew_eq htn]
      first | refine r_aload_n dX3_seller_88 rfl ?_ | refine r_aload_nq dX3_seller_88 rfl ?_ | refine r_aload_nN dX3_seller_88 rfl ?_
      refine r_iload_n dX3_seller_89 rfl ?_
      refine r_invV dX3_seller_90 (sp_X3_keeps hi u hu hu8) rfl mo_X3_keeps (Or.inl (m_o hi)) rfl (lkA q1954) (lkA q1956) (lkA qs32) rfl (lkA q82) mp_X3_keeps (Nat.le_of_ble_eq_true rfl) (Nat.le_of_ble_eq_true rfl) (Nat.le_of_ble_eq_true rfl) (kr_e ?_) kx_e
      exact r_ireturn dX3_seller_93 rfl (by first | rfl | exact bi_nar) (mE_K hr rfl rfl rfl rfl rfl rfl (fun k hk h4 h5 => by match k, hk, h4, h5 with | 0, _, _, _ => rfl | 1, _, _, _ => rfl | 2, _, _, _ => rfl | 3, _, _, _ => rfl | 6, _, _, _ => rfl | 7, _, _, _ => rfl))
    | succ n ih =>
      intro i x hx hn
      refine r_iload_n dX3_seller_48 rfl ?_
      refine r_bipush (v := 9) dX3_seller_49 rfl ?_
      refine r_icmp_ge 75 dX3_seller_51 rfl (fun c51 => absurd c51 (by intro hq; simp only [i32_eq, Int32.lt_iff_toInt_lt, Int32.le_iff_toInt_le, tI_add, tI_sub, tI_mul, tI_neg, Int32.reduceToInt] at hq; omega)) (fun c51 => ?_)
      first | refine r_aload_n dX3_seller_54 rfl ?_ | refine r_aload_nq dX3_seller_54 rfl ?_ | refine r_aload_nN dX3_seller_54 rfl ?_
      refine r_getfield 3 0 dX3_seller_55 rfl (Nat.le_of_ble_eq_true rfl) (lkA q1890) (Or.inl rfl) (Or.inl (m_o hi)) (by rfl) ?_
      refine r_bipush (v := 17) dX3_seller_58 rfl ?_
      refine r_bipush (v := 9) dX3_seller_60 rfl ?_
      refine r_iload_n dX3_seller_62 rfl ?_
      refine r_imul dX3_seller_63 ?_
      refine r_iadd dX3_seller_64 ?_
      refine r_iload_n dX3_seller_65 rfl ?_
      refine r_iadd dX3_seller_66 ?_
      refine r_iconst (v := 0) dX3_seller_67 rfl ?_
      refine r_iastore (((17 + (9 * s)) + i)) dX3_seller_68 (m_a0 hi) (by (try simp only [tI_add, tI_sub, tI_mul, tI_neg, Int32.reduceToInt]); omega) (by omega) ?_
      rw [m_w0 hi]
      refine r_inc 1 dX3_seller_69 rfl rfl (Nat.le_of_ble_eq_true rfl) ?_
      refine r_goto 48 dX3_seller_72 rfl ?_
      simp only [sa_sa, sa_s]
      rw [gZ_s]
      exact ih (i + 1) _ (by (try simp only [tI_add, tI_sub, tI_mul, tI_neg, Int32.reduceToInt]); omega) (by omega)
  have hz := loop 9 0 0 rfl rfl
  rw [gZ_0] at hz
  exact hz

set_option maxHeartbeats 4000000 in
set_option maxRecDepth 100000 in
theorem sp_X3_seller {G : GG} {A : Nat → Nat} {S : Nat → Nat → Int32} {h : HP} (hi : inj 8 mdom A) {y : Int32} (s : Nat) (hs : (S 0 2).toInt = (s : Int)) (hs4 : s ≤ 4) (u : Nat) (hu : (S 7 0).toInt = (u : Int)) (hu8 : u ≤ 8)  : Ct G 2 0 M_X3_seller [.ref (A 7), .int y] (ov (mdH A S) h) (mPubQ A S h (oSeller (S 0) y)) := by
  refine ct_intro my_X3_seller (Nat.le_of_ble_eq_true rfl) ?_
  first | refine r_aload_n dX3_seller_0 rfl ?_ | refine r_aload_nq dX3_seller_0 rfl ?_ | refine r_aload_nN dX3_seller_0 rfl ?_
  refine r_invV dX3_seller_1 (sp_X3_tries hi) rfl mo_X3_tries (Or.inl (m_o hi)) rfl (lkA q1943) (lkA q1945) (lkA qs30) rfl (lkA q82) mp_X3_tries (Nat.le_of_ble_eq_true rfl) (Nat.le_of_ble_eq_true rfl) (Nat.le_of_ble_eq_true rfl) (kr_e ?_) kx_e
  refine r_iload_n dX3_seller_4 rfl ?_
  refine r_iconst (v := 0) dX3_seller_5 rfl ?_
  refine r_bipush (v := 9) dX3_seller_6 rfl ?_
  refine r_invS dX3_seller_8 (sp_X3_in ) rfl mo_X3_in (lkA q1947) (lkA q1948) (lkA q82) mp_X3_in (Nat.le_of_ble_eq_true rfl) (Nat.le_of_ble_eq_true rfl) (Nat.le_of_ble_eq_true rfl) (kr_e ?_) kx_e
  refine r_if_ne 17 dX3_seller_11 rfl (fun c11 => ?_) (fun c11 => ?_)
  · first | refine r_aload_n dX3_seller_17 rfl ?_ | refine r_aload_nq dX3_seller_17 rfl ?_ | refine r_aload_nN dX3_seller_17 rfl ?_
    refine r_getfield 3 0 dX3_seller_18 rfl (Nat.le_of_ble_eq_true rfl) (lkA q1890) (Or.inl rfl) (Or.inl (m_o hi)) (by rfl) ?_
    refine r_iconst (v := 2) dX3_seller_21 rfl ?_
    refine r_iaload (2) dX3_seller_22 (by first | exact Or.inl (m_a0 hi) | exact Or.inl (m_a1 hi) | exact Or.inl (m_a2 hi) | exact Or.inl (m_a3 hi) | exact Or.inl (m_a4 hi) | exact Or.inl (m_a5 hi) | exact Or.inl (m_a6 hi)) rfl (Nat.le_of_ble_eq_true rfl) rfl ?_
    refine r_istore_n dX3_seller_23 (Nat.le_of_ble_eq_true rfl) ?_
    refine r_iload_n dX3_seller_24 rfl ?_
    refine r_iconst (v := 4) dX3_seller_25 rfl ?_
    refine r_icmp_ne 36 dX3_seller_26 rfl (fun c26 => ?_) (fun c26 => ?_)
    · first | refine r_aload_n dX3_seller_36 rfl ?_ | refine r_aload_nq dX3_seller_36 rfl ?_ | refine r_aload_nN dX3_seller_36 rfl ?_
      refine r_getfield 3 0 dX3_seller_37 rfl (Nat.le_of_ble_eq_true rfl) (lkA q1890) (Or.inl rfl) (Or.inl (m_o hi)) (by rfl) ?_
      refine r_iconst (v := 2) dX3_seller_40 rfl ?_
      refine r_dup2 dX3_seller_41 rfl rfl ?_
      refine r_iaload (2) dX3_seller_42 (by first | exact Or.inl (m_a0 hi) | exact Or.inl (m_a1 hi) | exact Or.inl (m_a2 hi) | exact Or.inl (m_a3 hi) | exact Or.inl (m_a4 hi) | exact Or.inl (m_a5 hi) | exact Or.inl (m_a6 hi)) rfl (Nat.le_of_ble_eq_true rfl) rfl ?_
      refine r_iconst (v := 1) dX3_seller_43 rfl ?_
      refine r_iadd dX3_seller_44 ?_
      refine r_iastore (2) dX3_seller_45 (m_a0 hi) rfl (Nat.le_of_ble_eq_true rfl) ?_
      rw [m_w0 hi]
      refine r_iconst (v := 0) dX3_seller_46 rfl ?_
      refine r_istore_n dX3_seller_47 (Nat.le_of_ble_eq_true rfl) ?_
      exact seller_2 hi s hs (by have h4 : ¬ s = 4 := (fun e => c26 (by rw [i32_eq]; rw [e] at hs; exact hs)); omega) u hu hu8 (by unfold tn; omega) (by (try simp only [bi_0, Bool.not_eq_false, s10, ss0] at c11); simp only [oSeller, c11, if_true]; exact if_neg c26)
    · first | refine r_aload_n dX3_seller_29 rfl ?_ | refine r_aload_nq dX3_seller_29 rfl ?_ | refine r_aload_nN dX3_seller_29 rfl ?_
      refine r_iconst (v := 1) dX3_seller_30 rfl ?_
      refine r_iconst (v := 4) dX3_seller_31 rfl ?_
      refine r_invV dX3_seller_32 (sp_X3_refuses hi) rfl mo_X3_refuses (Or.inl (m_o hi)) rfl (lkA q1950) (lkA q1952) (lkA qs31) rfl (lkA q82) mp_X3_refuses (Nat.le_of_ble_eq_true rfl) (Nat.le_of_ble_eq_true rfl) (Nat.le_of_ble_eq_true rfl) (kr_e ?_) kx_e
      exact r_ireturn dX3_seller_35 rfl (by first | rfl | exact bi_nar) (mE_R (by (try simp only [bi_0, Bool.not_eq_false, s10, ss0] at c11); simp only [oSeller, c11, if_true]; exact if_pos c26) rfl)
  · refine r_bipush (v := (-12)) dX3_seller_14 rfl ?_
    exact r_ireturn dX3_seller_16 rfl (by first | rfl | exact bi_nar) (mE_C (by (try simp only [bi_0, Bool.not_eq_false, s10, ss0] at c11); simp only [oSeller, c11, Bool.false_eq_true, if_false]) rfl)

theorem gDogs_t {w : Nat → Int32} {n : Nat} (h : 0 ≤ gMd w n) : gDogs w (n + 1) = gDogs w n + 1 := if_pos h
theorem gDogs_f {w : Nat → Int32} {n : Nat} (h : ¬ 0 ≤ gMd w n) : gDogs w (n + 1) = gDogs w n := if_neg h
set_option maxHeartbeats 4000000 in
set_option maxRecDepth 100000 in
theorem sp_X3_dogs {G : GG} {A : Nat → Nat} {S : Nat → Nat → Int32} {h : HP} (hi : inj 8 mdom A)  : Ct G 1 0 M_X3_dogs [.ref (A 7)] (ov (mdH A S) h) (eQ (some (.int (gDogs (S 0) 20))) (ov (mdH A S) h)) := by
  refine ct_intro my_X3_dogs (Nat.le_of_ble_eq_true rfl) ?_
  have loop : ∀ (n i : Nat) (x y : Int32), x.toInt = (i : Int) → i + n = 20 → y = gDogs (S 0) i → V G 1 M_X3_dogs 4 [(2, .int x), (1, .int y), (0, .ref (A 7))] [] (ov (mdH A S) h) 0 (eQ (some (.int (gDogs (S 0) 20))) (ov (mdH A S) h)) := by
    intro n
    induction n with
    | zero =>
      intro i x y hx hn hy
      have hN : i = 20 := by omega
      subst hN
      subst hy
      refine r_iload_n dX3_dogs_4 rfl ?_
      refine r_bipush (v := 20) dX3_dogs_5 rfl ?_
      refine r_icmp_ge 27 dX3_dogs_7 rfl (fun c7 => ?_) (fun c7 => absurd c7 (by intro hq; simp only [i32_eq, Int32.lt_iff_toInt_lt, Int32.le_iff_toInt_le, tI_add, tI_sub, tI_mul, tI_neg, Int32.reduceToInt] at hq; omega))
      refine r_iload_n dX3_dogs_27 rfl ?_
      exact r_ireturn dX3_dogs_28 rfl (by first | rfl | exact bi_nar) (by first | exact ⟨rfl, rfl⟩ | rfl)
    | succ n ih =>
      intro i x y hx hn hy
      refine r_iload_n dX3_dogs_4 rfl ?_
      refine r_bipush (v := 20) dX3_dogs_5 rfl ?_
      refine r_icmp_ge 27 dX3_dogs_7 rfl (fun c7 => absurd c7 (by intro hq; simp only [i32_eq, Int32.lt_iff_toInt_lt, Int32.le_iff_toInt_le, tI_add, tI_sub, tI_mul, tI_neg, Int32.reduceToInt] at hq; omega)) (fun c7 => ?_)
      first | refine r_aload_n dX3_dogs_10 rfl ?_ | refine r_aload_nq dX3_dogs_10 rfl ?_ | refine r_aload_nN dX3_dogs_10 rfl ?_
      refine r_iload_n dX3_dogs_11 rfl ?_
      refine r_invV dX3_dogs_12 (sp_X3_mood hi i hx (by omega)) rfl mo_X3_mood (Or.inl (m_o hi)) rfl (lkA q1965) (lkA q1967) (lkA qs33) rfl (lkA q82) mp_X3_mood (Nat.le_of_ble_eq_true rfl) (Nat.le_of_ble_eq_true rfl) (Nat.le_of_ble_eq_true rfl) (kr_e ?_) kx_e
      refine r_if_lt 21 dX3_dogs_15 rfl (fun c15 => ?_) (fun c15 => ?_)
      · refine r_inc 1 dX3_dogs_21 rfl rfl (Nat.le_of_ble_eq_true rfl) ?_
        refine r_goto 4 dX3_dogs_24 rfl ?_
        refine V_loc (L' := [(2, .int (x + 1)), (1, .int y), (0, .ref (A 7))]) ⟨rfl, rfl, rfl, trivial⟩ ?_
        exact ih (i + 1) _ _ (by (try simp only [tI_add, tI_sub, tI_mul, tI_neg, Int32.reduceToInt]); omega) (by omega) (by rw [hy, gDogs_f (by rw [Int32.not_le]; exact c15)])
      · refine r_inc 1 dX3_dogs_18 rfl rfl (Nat.le_of_ble_eq_true rfl) ?_
        refine r_inc 1 dX3_dogs_21 rfl rfl (Nat.le_of_ble_eq_true rfl) ?_
        refine r_goto 4 dX3_dogs_24 rfl ?_
        refine V_loc (L' := [(2, .int (x + 1)), (1, .int (y + 1)), (0, .ref (A 7))]) ⟨rfl, rfl, rfl, trivial⟩ ?_
        exact ih (i + 1) _ _ (by (try simp only [tI_add, tI_sub, tI_mul, tI_neg, Int32.reduceToInt]); omega) (by omega) (by rw [hy, gDogs_t (Int32.not_lt.mp c15)])
  refine r_iconst (v := 0) dX3_dogs_0 rfl ?_
  refine r_istore_n dX3_dogs_1 (Nat.le_of_ble_eq_true rfl) ?_
  refine r_iconst (v := 0) dX3_dogs_2 rfl ?_
  refine r_istore_n dX3_dogs_3 (Nat.le_of_ble_eq_true rfl) ?_
  exact loop 20 0 0 0 rfl rfl rfl

set_option maxHeartbeats 4000000 in
set_option maxRecDepth 100000 in
theorem sp_X3_dog {G : GG} {A : Nat → Nat} {S : Nat → Nat → Int32} {h : HP} (hi : inj 8 mdom A) {x y : Int32} (u : Nat) (hu : (S 7 0).toInt = (u : Int)) (hu8 : u ≤ 8)  : Ct G 2 0 M_X3_dog [.ref (A 7), .int x, .int y] (ov (mdH A S) h) (mPubQ A S h (oDog (S 0) x y)) := by
  refine ct_intro my_X3_dog (Nat.le_of_ble_eq_true rfl) ?_
  first | refine r_aload_n dX3_dog_0 rfl ?_ | refine r_aload_nq dX3_dog_0 rfl ?_ | refine r_aload_nN dX3_dog_0 rfl ?_
  refine r_invV dX3_dog_1 (sp_X3_tries hi) rfl mo_X3_tries (Or.inl (m_o hi)) rfl (lkA q1943) (lkA q1945) (lkA qs30) rfl (lkA q82) mp_X3_tries (Nat.le_of_ble_eq_true rfl) (Nat.le_of_ble_eq_true rfl) (Nat.le_of_ble_eq_true rfl) (kr_e ?_) kx_e
  refine r_iload_n dX3_dog_4 rfl ?_
  refine r_invS dX3_dog_5 (sp_X3_isHouse ) rfl mo_X3_isHouse (lkA q1962) (lkA q1963) (lkA q82) mp_X3_isHouse (Nat.le_of_ble_eq_true rfl) (Nat.le_of_ble_eq_true rfl) (Nat.le_of_ble_eq_true rfl) (kr_e ?_) kx_e
  refine r_if_ne 14 dX3_dog_8 rfl (fun c8 => ?_) (fun c8 => ?_)
  · refine r_iload_n dX3_dog_14 rfl ?_
    refine r_iconst (v := 0) dX3_dog_15 rfl ?_
    refine r_bipush (v := 9) dX3_dog_16 rfl ?_
    refine r_invS dX3_dog_18 (sp_X3_in ) rfl mo_X3_in (lkA q1947) (lkA q1948) (lkA q82) mp_X3_in (Nat.le_of_ble_eq_true rfl) (Nat.le_of_ble_eq_true rfl) (Nat.le_of_ble_eq_true rfl) (kr_e ?_) kx_e
    refine r_if_ne 27 dX3_dog_21 rfl (fun c21 => ?_) (fun c21 => ?_)
    · first | refine r_aload_n dX3_dog_27 rfl ?_ | refine r_aload_nq dX3_dog_27 rfl ?_ | refine r_aload_nN dX3_dog_27 rfl ?_
      refine r_iload_n dX3_dog_28 rfl ?_
      refine r_invV dX3_dog_29 (sp_X3_mood hi (tn x) (by (try simp only [bi_0, Bool.not_eq_false, s10, ss0] at c8); have this : (0:Int) ≤ x.toInt ∧ x.toInt ≤ 19 := isn_t.mp c8; unfold tn; omega) (by (try simp only [bi_0, Bool.not_eq_false, s10, ss0] at c8); have this : (0:Int) ≤ x.toInt ∧ x.toInt ≤ 19 := isn_t.mp c8; unfold tn; omega)) rfl mo_X3_mood (Or.inl (m_o hi)) rfl (lkA q1965) (lkA q1967) (lkA qs33) rfl (lkA q82) mp_X3_mood (Nat.le_of_ble_eq_true rfl) (Nat.le_of_ble_eq_true rfl) (Nat.le_of_ble_eq_true rfl) (kr_e ?_) kx_e
      refine r_if_lt 47 dX3_dog_32 rfl (fun c32 => ?_) (fun c32 => ?_)
      · first | refine r_aload_n dX3_dog_47 rfl ?_ | refine r_aload_nq dX3_dog_47 rfl ?_ | refine r_aload_nN dX3_dog_47 rfl ?_
        refine r_getfield 3 0 dX3_dog_48 rfl (Nat.le_of_ble_eq_true rfl) (lkA q1890) (Or.inl rfl) (Or.inl (m_o hi)) (by rfl) ?_
        refine r_bipush (v := 53) dX3_dog_51 rfl ?_
        refine r_iconst (v := 4) dX3_dog_53 rfl ?_
        refine r_iload_n dX3_dog_54 rfl ?_
        refine r_imul dX3_dog_55 ?_
        refine r_iadd dX3_dog_56 ?_
        refine r_iconst (v := 1) dX3_dog_57 rfl ?_
        refine r_iadd dX3_dog_58 ?_
        refine r_iload_n dX3_dog_59 rfl ?_
        refine r_iconst (v := 1) dX3_dog_60 rfl ?_
        refine r_iadd dX3_dog_61 ?_
        refine r_iastore (53 + 4 * tn x + 1) dX3_dog_62 (m_a0 hi) (by have hq : (tn x : Int) = x.toInt := (by (try simp only [bi_0, Bool.not_eq_false, s10, ss0] at c8); have this : (0:Int) ≤ x.toInt ∧ x.toInt ≤ 19 := isn_t.mp c8; unfold tn; omega); have hq2 : tn x < 20 := (by (try simp only [bi_0, Bool.not_eq_false, s10, ss0] at c8); have this : (0:Int) ≤ x.toInt ∧ x.toInt ≤ 19 := isn_t.mp c8; unfold tn; omega); simp only [tI_add, tI_sub, tI_mul, tI_neg, Int32.reduceToInt]; omega) (by have hq2 : tn x < 20 := (by (try simp only [bi_0, Bool.not_eq_false, s10, ss0] at c8); have this : (0:Int) ≤ x.toInt ∧ x.toInt ≤ 19 := isn_t.mp c8; unfold tn; omega); omega) ?_
        rw [m_w0 hi]
        first | refine r_aload_n dX3_dog_63 rfl ?_ | refine r_aload_nq dX3_dog_63 rfl ?_ | refine r_aload_nN dX3_dog_63 rfl ?_
        first | refine r_aload_n dX3_dog_64 rfl ?_ | refine r_aload_nq dX3_dog_64 rfl ?_ | refine r_aload_nN dX3_dog_64 rfl ?_
        refine r_invV dX3_dog_65 (sp_X3_dogs hi) rfl mo_X3_dogs (Or.inl (m_o hi)) rfl (lkA q1969) (lkA q1971) (lkA qs34) rfl (lkA q82) mp_X3_dogs (Nat.le_of_ble_eq_true rfl) (Nat.le_of_ble_eq_true rfl) (Nat.le_of_ble_eq_true rfl) (kr_e ?_) kx_e
        refine r_invV dX3_dog_68 (sp_X3_keeps hi u hu hu8) rfl mo_X3_keeps (Or.inl (m_o hi)) rfl (lkA q1954) (lkA q1956) (lkA qs32) rfl (lkA q82) mp_X3_keeps (Nat.le_of_ble_eq_true rfl) (Nat.le_of_ble_eq_true rfl) (Nat.le_of_ble_eq_true rfl) (kr_e ?_) kx_e
        exact r_ireturn dX3_dog_71 rfl (by first | rfl | exact bi_nar) (mE_K (by (try simp only [bi_0, Bool.not_eq_false, s10, ss0] at c8); (try simp only [bi_0, Bool.not_eq_false, s10, ss0] at c21); simp only [oDog, c8, c21, if_true]; exact if_neg (Int32.not_le.mpr c32)) rfl rfl rfl rfl rfl rfl (fun k hk h4 h5 => by match k, hk, h4, h5 with | 0, _, _, _ => rfl | 1, _, _, _ => rfl | 2, _, _, _ => rfl | 3, _, _, _ => rfl | 6, _, _, _ => rfl | 7, _, _, _ => rfl))
      · first | refine r_aload_n dX3_dog_35 rfl ?_ | refine r_aload_nq dX3_dog_35 rfl ?_ | refine r_aload_nN dX3_dog_35 rfl ?_
        refine r_bipush (v := 15) dX3_dog_36 rfl ?_
        first | refine r_aload_n dX3_dog_38 rfl ?_ | refine r_aload_nq dX3_dog_38 rfl ?_ | refine r_aload_nN dX3_dog_38 rfl ?_
        refine r_iload_n dX3_dog_39 rfl ?_
        refine r_invV dX3_dog_40 (sp_X3_mood hi (tn x) (by (try simp only [bi_0, Bool.not_eq_false, s10, ss0] at c8); have this : (0:Int) ≤ x.toInt ∧ x.toInt ≤ 19 := isn_t.mp c8; unfold tn; omega) (by (try simp only [bi_0, Bool.not_eq_false, s10, ss0] at c8); have this : (0:Int) ≤ x.toInt ∧ x.toInt ≤ 19 := isn_t.mp c8; unfold tn; omega)) rfl mo_X3_mood (Or.inl (m_o hi)) rfl (lkA q1965) (lkA q1967) (lkA qs33) rfl (lkA q82) mp_X3_mood (Nat.le_of_ble_eq_true rfl) (Nat.le_of_ble_eq_true rfl) (Nat.le_of_ble_eq_true rfl) (kr_e ?_) kx_e
        refine r_invV dX3_dog_43 (sp_X3_refuses hi) rfl mo_X3_refuses (Or.inl (m_o hi)) rfl (lkA q1950) (lkA q1952) (lkA qs31) rfl (lkA q82) mp_X3_refuses (Nat.le_of_ble_eq_true rfl) (Nat.le_of_ble_eq_true rfl) (Nat.le_of_ble_eq_true rfl) (kr_e ?_) kx_e
        exact r_ireturn dX3_dog_46 rfl (by first | rfl | exact bi_nar) (mE_R (by (try simp only [bi_0, Bool.not_eq_false, s10, ss0] at c8); (try simp only [bi_0, Bool.not_eq_false, s10, ss0] at c21); simp only [oDog, c8, c21, if_true]; exact if_pos (Int32.not_lt.mp c32)) rfl)
    · refine r_bipush (v := (-12)) dX3_dog_24 rfl ?_
      exact r_ireturn dX3_dog_26 rfl (by first | rfl | exact bi_nar) (mE_C (by (try simp only [bi_0, Bool.not_eq_false, s10, ss0] at c8); (try simp only [bi_0, Bool.not_eq_false, s10, ss0] at c21); simp only [oDog, c8, c21, if_true, Bool.false_eq_true, if_false]) rfl)
  · refine r_bipush (v := (-11)) dX3_dog_11 rfl ?_
    exact r_ireturn dX3_dog_13 rfl (by first | rfl | exact bi_nar) (mE_C (by (try simp only [bi_0, Bool.not_eq_false, s10, ss0] at c8); simp only [oDog, c8, Bool.false_eq_true, if_false]) rfl)

set_option maxHeartbeats 4000000 in
set_option maxRecDepth 100000 in
theorem sp_X3_spends {G : GG} {A : Nat → Nat} {S : Nat → Nat → Int32} {h : HP} (hi : inj 8 mdom A) {x : Int32} : Ct G 1 0 M_X3_spends [.ref (A 7), .int x] (ov (mdH A S) h) (eQ (some (.int (if S 0 4 < x then -14 else 0))) (ov (mdH A (if S 0 4 < x then ss (ss S 6 8) 7 (x - S 0 4) else sa S 0 (gSpend (S 0) x))) h)) := by
  refine ct_intro my_X3_spends (Nat.le_of_ble_eq_true rfl) ?_
  first | refine r_aload_n dX3_spends_0 rfl ?_ | refine r_aload_nq dX3_spends_0 rfl ?_ | refine r_aload_nN dX3_spends_0 rfl ?_
  refine r_getfield 3 0 dX3_spends_1 rfl (Nat.le_of_ble_eq_true rfl) (lkA q1890) (Or.inl rfl) (Or.inl (m_o hi)) (by rfl) ?_
  refine r_iconst (v := 4) dX3_spends_4 rfl ?_
  refine r_iaload (4) dX3_spends_5 (by first | exact Or.inl (m_a0 hi) | exact Or.inl (m_a1 hi) | exact Or.inl (m_a2 hi) | exact Or.inl (m_a3 hi) | exact Or.inl (m_a4 hi) | exact Or.inl (m_a5 hi) | exact Or.inl (m_a6 hi)) rfl (Nat.le_of_ble_eq_true rfl) rfl ?_
  refine r_iload_n dX3_spends_6 rfl ?_
  refine r_icmp_ge 25 dX3_spends_7 rfl (fun c7 => ?_) (fun c7 => ?_)
  · first | refine r_aload_n dX3_spends_25 rfl ?_ | refine r_aload_nq dX3_spends_25 rfl ?_ | refine r_aload_nN dX3_spends_25 rfl ?_
    refine r_getfield 3 0 dX3_spends_26 rfl (Nat.le_of_ble_eq_true rfl) (lkA q1890) (Or.inl rfl) (Or.inl (m_o hi)) (by rfl) ?_
    refine r_iconst (v := 4) dX3_spends_29 rfl ?_
    refine r_dup2 dX3_spends_30 rfl rfl ?_
    refine r_iaload (4) dX3_spends_31 (by first | exact Or.inl (m_a0 hi) | exact Or.inl (m_a1 hi) | exact Or.inl (m_a2 hi) | exact Or.inl (m_a3 hi) | exact Or.inl (m_a4 hi) | exact Or.inl (m_a5 hi) | exact Or.inl (m_a6 hi)) rfl (Nat.le_of_ble_eq_true rfl) rfl ?_
    refine r_iload_n dX3_spends_32 rfl ?_
    refine r_isub dX3_spends_33 ?_
    refine r_iastore (4) dX3_spends_34 (m_a0 hi) rfl (Nat.le_of_ble_eq_true rfl) ?_
    rw [m_w0 hi]
    first | refine r_aload_n dX3_spends_35 rfl ?_ | refine r_aload_nq dX3_spends_35 rfl ?_ | refine r_aload_nN dX3_spends_35 rfl ?_
    refine r_getfield 3 0 dX3_spends_36 rfl (Nat.le_of_ble_eq_true rfl) (lkA q1890) (Or.inl rfl) (Or.inl (m_o hi)) (by rfl) ?_
    refine r_bipush (v := 11) dX3_spends_39 rfl ?_
    refine r_dup2 dX3_spends_41 rfl rfl ?_
    refine r_iaload (11) dX3_spends_42 (by first | exact Or.inl (m_a0 hi) | exact Or.inl (m_a1 hi) | exact Or.inl (m_a2 hi) | exact Or.inl (m_a3 hi) | exact Or.inl (m_a4 hi) | exact Or.inl (m_a5 hi) | exact Or.inl (m_a6 hi)) rfl (Nat.le_of_ble_eq_true rfl) rfl ?_
    refine r_iload_n dX3_spends_43 rfl ?_
    refine r_iadd dX3_spends_44 ?_
    refine r_iastore (11) dX3_spends_45 (m_a0 hi) rfl (Nat.le_of_ble_eq_true rfl) ?_
    rw [m_w0 hi]
    refine r_iconst (v := 0) dX3_spends_46 rfl ?_
    exact r_ireturn dX3_spends_47 rfl (by first | rfl | exact bi_nar) (by rw [if_neg (Int32.not_lt.mpr c7), if_neg (Int32.not_lt.mpr c7)]; exact ⟨rfl, by rw [sa_sa]; rfl⟩)
  · first | refine r_aload_n dX3_spends_10 rfl ?_ | refine r_aload_nq dX3_spends_10 rfl ?_ | refine r_aload_nN dX3_spends_10 rfl ?_
    refine r_bipush (v := 8) dX3_spends_11 rfl ?_
    refine r_iload_n dX3_spends_13 rfl ?_
    first | refine r_aload_n dX3_spends_14 rfl ?_ | refine r_aload_nq dX3_spends_14 rfl ?_ | refine r_aload_nN dX3_spends_14 rfl ?_
    refine r_getfield 3 0 dX3_spends_15 rfl (Nat.le_of_ble_eq_true rfl) (lkA q1890) (Or.inl rfl) (Or.inl (m_o hi)) (by rfl) ?_
    refine r_iconst (v := 4) dX3_spends_18 rfl ?_
    refine r_iaload (4) dX3_spends_19 (by first | exact Or.inl (m_a0 hi) | exact Or.inl (m_a1 hi) | exact Or.inl (m_a2 hi) | exact Or.inl (m_a3 hi) | exact Or.inl (m_a4 hi) | exact Or.inl (m_a5 hi) | exact Or.inl (m_a6 hi)) rfl (Nat.le_of_ble_eq_true rfl) rfl ?_
    refine r_isub dX3_spends_20 ?_
    refine r_invV dX3_spends_21 (sp_X3_refuses hi) rfl mo_X3_refuses (Or.inl (m_o hi)) rfl (lkA q1950) (lkA q1952) (lkA qs31) rfl (lkA q82) mp_X3_refuses (Nat.le_of_ble_eq_true rfl) (Nat.le_of_ble_eq_true rfl) (Nat.le_of_ble_eq_true rfl) (kr_e ?_) kx_e
    exact r_ireturn dX3_spends_24 rfl (by first | rfl | exact bi_nar) (by rw [if_pos (Int32.not_le.mp c7), if_pos (Int32.not_le.mp c7)]; exact ⟨rfl, rfl⟩)

set_option maxHeartbeats 4000000 in
set_option maxRecDepth 100000 in
theorem make_2 {G : GG} {A : Nat → Nat} {S : Nat → Nat → Int32} {h : HP} (hi : inj 8 mdom A) {x y : Int32} {r : OpR} {L : List (Nat × Value)} (u : Nat) (hu : (S 7 0).toInt = (u : Int)) (hu8 : u ≤ 8) (hx : isB x = true) (hL0 : lvg L 0 = some (.ref (A 7))) (hL2 : lvg L 2 = some (.int y)) (hL3 : lvg L 3 = some (.int (14 + x))) (hr1 : S 0 4 < gCost x y → r = oR 8 (gCost x y - S 0 4)) (hr2 : ¬ S 0 4 < gCost x y → r = oK (gMake (gSpend (S 0) (gCost x y)) (tn x) y (14 + tn x)) (gMake (gSpend (S 0) (gCost x y)) (tn x) y)) : V G 2 M_X3_make 75 L [.int (if (sa S 1 (cpN 413 (S 0) (S 1))) 0 4 < gCost x y then -14 else 0)] (ov (mdH A (if (sa S 1 (cpN 413 (S 0) (S 1))) 0 4 < gCost x y then ss (ss (sa S 1 (cpN 413 (S 0) (S 1))) 6 8) 7 (gCost x y - (sa S 1 (cpN 413 (S 0) (S 1))) 0 4) else sa (sa S 1 (cpN 413 (S 0) (S 1))) 0 (gSpend ((sa S 1 (cpN 413 (S 0) (S 1))) 0) (gCost x y)))) h) 0 (mPubQ A S h r) := by
  have e0 : (sa S 1 (cpN 413 (S 0) (S 1))) 0 = S 0 := rfl
  have hb := isn_t.mp hx
  simp only [Int32.reduceToInt] at hb
  have hq : (tn x : Int) = x.toInt := by unfold tn; omega
  have hq2 : tn x < 3 := by unfold tn; omega
  rw [e0]
  by_cases hcost : S 0 4 < gCost x y
  · rw [if_pos hcost, if_pos hcost]
    refine r_if_ge 81 dX3_make_75 rfl (fun c75 => absurd c75 (by decide)) (fun c75 => ?_)
    refine r_bipush (v := (-14)) dX3_make_78 rfl ?_
    exact r_ireturn dX3_make_80 rfl (by first | rfl | exact bi_nar) (mE_R (hr1 hcost) rfl)
  · rw [if_neg hcost, if_neg hcost]
    refine r_if_ge 81 dX3_make_75 rfl (fun c75 => ?_) (fun c75 => absurd c75 (by decide))
    first | refine r_aload_n dX3_make_81 hL0 ?_ | refine r_aload_nq dX3_make_81 rfl ?_ | refine r_aload_nN dX3_make_81 rfl ?_
    refine r_getfield 3 0 dX3_make_82 rfl (Nat.le_of_ble_eq_true rfl) (lkA q1890) (Or.inl rfl) (Or.inl (m_o hi)) (by rfl) ?_
    refine r_iload_n dX3_make_85 hL3 ?_
    refine r_dup2 dX3_make_86 rfl rfl ?_
    refine r_iaload (14 + tn x) dX3_make_87 (by first | exact Or.inl (m_a0 hi) | exact Or.inl (m_a1 hi) | exact Or.inl (m_a2 hi) | exact Or.inl (m_a3 hi) | exact Or.inl (m_a4 hi) | exact Or.inl (m_a5 hi) | exact Or.inl (m_a6 hi)) (by (try simp only [tI_add, tI_sub, tI_mul, tI_neg, Int32.reduceToInt]); omega) (by omega) rfl ?_
    refine r_iload_n dX3_make_88 hL2 ?_
    refine r_iadd dX3_make_89 ?_
    refine r_iastore (14 + tn x) dX3_make_90 (m_a0 hi) (by (try simp only [tI_add, tI_sub, tI_mul, tI_neg, Int32.reduceToInt]); omega) (by omega) ?_
    rw [m_w0 hi]
    first | refine r_aload_n dX3_make_91 hL0 ?_ | refine r_aload_nq dX3_make_91 rfl ?_ | refine r_aload_nN dX3_make_91 rfl ?_
    refine r_getfield 3 0 dX3_make_92 rfl (Nat.le_of_ble_eq_true rfl) (lkA q1890) (Or.inl rfl) (Or.inl (m_o hi)) (by rfl) ?_
    refine r_iconst (v := 5) dX3_make_95 rfl ?_
    refine r_dup2 dX3_make_96 rfl rfl ?_
    refine r_iaload (5) dX3_make_97 (by first | exact Or.inl (m_a0 hi) | exact Or.inl (m_a1 hi) | exact Or.inl (m_a2 hi) | exact Or.inl (m_a3 hi) | exact Or.inl (m_a4 hi) | exact Or.inl (m_a5 hi) | exact Or.inl (m_a6 hi)) rfl (Nat.le_of_ble_eq_true rfl) rfl ?_
    refine r_iload_n dX3_make_98 hL2 ?_
    refine r_iadd dX3_make_99 ?_
    refine r_iastore (5) dX3_make_100 (m_a0 hi) rfl (Nat.le_of_ble_eq_true rfl) ?_
    rw [m_w0 hi]
    first | refine r_aload_n dX3_make_101 hL0 ?_ | refine r_aload_nq dX3_make_101 rfl ?_ | refine r_aload_nN dX3_make_101 rfl ?_
    first | refine r_aload_n dX3_make_102 hL0 ?_ | refine r_aload_nq dX3_make_102 rfl ?_ | refine r_aload_nN dX3_make_102 rfl ?_
    refine r_getfield 3 0 dX3_make_103 rfl (Nat.le_of_ble_eq_true rfl) (lkA q1890) (Or.inl rfl) (Or.inl (m_o hi)) (by rfl) ?_
    refine r_iload_n dX3_make_106 hL3 ?_
    refine r_iaload (14 + tn x) dX3_make_107 (by first | exact Or.inl (m_a0 hi) | exact Or.inl (m_a1 hi) | exact Or.inl (m_a2 hi) | exact Or.inl (m_a3 hi) | exact Or.inl (m_a4 hi) | exact Or.inl (m_a5 hi) | exact Or.inl (m_a6 hi)) (by (try simp only [tI_add, tI_sub, tI_mul, tI_neg, Int32.reduceToInt]); omega) (by omega) rfl ?_
    refine r_invV dX3_make_108 (sp_X3_keeps hi u hu hu8) rfl mo_X3_keeps (Or.inl (m_o hi)) rfl (lkA q1954) (lkA q1956) (lkA qs32) rfl (lkA q82) mp_X3_keeps (Nat.le_of_ble_eq_true rfl) (Nat.le_of_ble_eq_true rfl) (Nat.le_of_ble_eq_true rfl) (kr_e ?_) kx_e
    exact r_ireturn dX3_make_111 rfl (by first | rfl | exact bi_nar) (mE_K (hr2 hcost) (by simp only [sa_sa, sa_s]; rfl) rfl rfl rfl rfl rfl (fun k hk h4 h5 => by match k, hk, h4, h5 with | 0, _, _, _ => rfl | 1, _, _, _ => rfl | 2, _, _, _ => rfl | 3, _, _, _ => rfl | 6, _, _, _ => rfl | 7, _, _, _ => rfl))

set_option maxHeartbeats 4000000 in
set_option maxRecDepth 100000 in
theorem sp_X3_make {G : GG} {A : Nat → Nat} {S : Nat → Nat → Int32} {h : HP} (hi : inj 8 mdom A) {x y : Int32} (u : Nat) (hu : (S 7 0).toInt = (u : Int)) (hu8 : u ≤ 8)  : Ct G 2 0 M_X3_make [.ref (A 7), .int x, .int y] (ov (mdH A S) h) (mPubQ A S h (oMake (S 0) x y)) := by
  refine ct_intro my_X3_make (Nat.le_of_ble_eq_true rfl) ?_
  first | refine r_aload_n dX3_make_0 rfl ?_ | refine r_aload_nq dX3_make_0 rfl ?_ | refine r_aload_nN dX3_make_0 rfl ?_
  refine r_invV dX3_make_1 (sp_X3_tries hi) rfl mo_X3_tries (Or.inl (m_o hi)) rfl (lkA q1943) (lkA q1945) (lkA qs30) rfl (lkA q82) mp_X3_tries (Nat.le_of_ble_eq_true rfl) (Nat.le_of_ble_eq_true rfl) (Nat.le_of_ble_eq_true rfl) (kr_e ?_) kx_e
  refine r_iload_n dX3_make_4 rfl ?_
  refine r_invS dX3_make_5 (sp_X3_isBristle ) rfl mo_X3_isBristle (lkA q1977) (lkA q1978) (lkA q82) mp_X3_isBristle (Nat.le_of_ble_eq_true rfl) (Nat.le_of_ble_eq_true rfl) (Nat.le_of_ble_eq_true rfl) (kr_e ?_) kx_e
  refine r_if_ne 14 dX3_make_8 rfl (fun c8 => ?_) (fun c8 => ?_)
  · refine r_iload_n dX3_make_14 rfl ?_
    refine r_iconst (v := 1) dX3_make_15 rfl ?_
    refine r_bipush (v := 50) dX3_make_16 rfl ?_
    refine r_invS dX3_make_18 (sp_X3_in ) rfl mo_X3_in (lkA q1947) (lkA q1948) (lkA q82) mp_X3_in (Nat.le_of_ble_eq_true rfl) (Nat.le_of_ble_eq_true rfl) (Nat.le_of_ble_eq_true rfl) (kr_e ?_) kx_e
    refine r_if_ne 27 dX3_make_21 rfl (fun c21 => ?_) (fun c21 => ?_)
    · refine r_bipush (v := 14) dX3_make_27 rfl ?_
      refine r_iload_n dX3_make_29 rfl ?_
      refine r_iadd dX3_make_30 ?_
      refine r_istore_n dX3_make_31 (Nat.le_of_ble_eq_true rfl) ?_
      first | refine r_aload_n dX3_make_32 rfl ?_ | refine r_aload_nq dX3_make_32 rfl ?_ | refine r_aload_nN dX3_make_32 rfl ?_
      refine r_getfield 3 0 dX3_make_33 rfl (Nat.le_of_ble_eq_true rfl) (lkA q1890) (Or.inl rfl) (Or.inl (m_o hi)) (by rfl) ?_
      refine r_iload_n dX3_make_36 rfl ?_
      refine r_iaload (14 + tn x) dX3_make_37 (by first | exact Or.inl (m_a0 hi) | exact Or.inl (m_a1 hi) | exact Or.inl (m_a2 hi) | exact Or.inl (m_a3 hi) | exact Or.inl (m_a4 hi) | exact Or.inl (m_a5 hi) | exact Or.inl (m_a6 hi)) (by have hq : (tn x : Int) = x.toInt := (by (try simp only [bi_0, Bool.not_eq_false, s10, ss0] at c8); have this : (0:Int) ≤ x.toInt ∧ x.toInt ≤ 2 := isn_t.mp c8; unfold tn; omega); have hq2 : tn x < 3 := (by (try simp only [bi_0, Bool.not_eq_false, s10, ss0] at c8); have this : (0:Int) ≤ x.toInt ∧ x.toInt ≤ 2 := isn_t.mp c8; unfold tn; omega); simp only [tI_add, tI_sub, tI_mul, tI_neg, Int32.reduceToInt]; omega) (by have hq2 : tn x < 3 := (by (try simp only [bi_0, Bool.not_eq_false, s10, ss0] at c8); have this : (0:Int) ≤ x.toInt ∧ x.toInt ≤ 2 := isn_t.mp c8; unfold tn; omega); omega) rfl ?_
      refine r_iload_n dX3_make_38 rfl ?_
      refine r_iadd dX3_make_39 ?_
      refine r_sipush (v := 200) dX3_make_40 rfl ?_
      refine r_icmp_le 59 dX3_make_43 rfl (fun c43 => ?_) (fun c43 => ?_)
      · first | refine r_aload_n dX3_make_59 rfl ?_ | refine r_aload_nq dX3_make_59 rfl ?_ | refine r_aload_nN dX3_make_59 rfl ?_
        refine r_iload_n dX3_make_60 rfl ?_
        refine r_iconst (v := 1) dX3_make_61 rfl ?_
        refine r_icmp_ne 71 dX3_make_62 rfl (fun c62 => ?_) (fun c62 => ?_)
        · refine r_iload_n dX3_make_71 rfl ?_
          have eC : y = gCost x y := (if_neg c62).symm
          refine V_stk (st := [.int (gCost x y), .ref (A 7)]) (by rw [← eC]; rfl) ?_ -- [show y = gCost x y from (if_neg c62).symm]
          refine r_invV dX3_make_72 (sp_X3_spends hi) rfl mo_X3_spends (Or.inl (m_o hi)) rfl (lkA q1980) (lkA q1982) (lkA qs35) rfl (lkA q82) mp_X3_spends (Nat.le_of_ble_eq_true rfl) (Nat.le_of_ble_eq_true rfl) (Nat.le_of_ble_eq_true rfl) (kr_e ?_) kx_e
          exact make_2 hi u hu hu8 (by (try simp only [bi_0, Bool.not_eq_false, s10, ss0] at c8); exact c8) rfl rfl rfl (fun hq => by (try simp only [bi_0, Bool.not_eq_false, s10, ss0] at c8); (try simp only [bi_0, Bool.not_eq_false, s10, ss0] at c21); simp only [oMake, c8, c21, if_true]; rw [if_neg (by rw [Int32.not_lt]; exact c43), if_pos hq]) (fun hq => by (try simp only [bi_0, Bool.not_eq_false, s10, ss0] at c8); (try simp only [bi_0, Bool.not_eq_false, s10, ss0] at c21); simp only [oMake, c8, c21, if_true]; rw [if_neg (by rw [Int32.not_lt]; exact c43), if_neg hq])
        · refine r_iconst (v := 2) dX3_make_65 rfl ?_
          refine r_iload_n dX3_make_66 rfl ?_
          refine r_imul dX3_make_67 ?_
          refine r_goto 72 dX3_make_68 rfl ?_
          have eC : 2 * y = gCost x y := (if_pos c62).symm
          refine V_stk (st := [.int (gCost x y), .ref (A 7)]) (by rw [← eC]; rfl) ?_
          refine r_invV dX3_make_72 (sp_X3_spends hi) rfl mo_X3_spends (Or.inl (m_o hi)) rfl (lkA q1980) (lkA q1982) (lkA qs35) rfl (lkA q82) mp_X3_spends (Nat.le_of_ble_eq_true rfl) (Nat.le_of_ble_eq_true rfl) (Nat.le_of_ble_eq_true rfl) (kr_e ?_) kx_e
          exact make_2 hi u hu hu8 (by (try simp only [bi_0, Bool.not_eq_false, s10, ss0] at c8); exact c8) rfl rfl rfl (fun hq => by (try simp only [bi_0, Bool.not_eq_false, s10, ss0] at c8); (try simp only [bi_0, Bool.not_eq_false, s10, ss0] at c21); simp only [oMake, c8, c21, if_true]; rw [if_neg (by rw [Int32.not_lt]; exact c43), if_pos hq]) (fun hq => by (try simp only [bi_0, Bool.not_eq_false, s10, ss0] at c8); (try simp only [bi_0, Bool.not_eq_false, s10, ss0] at c21); simp only [oMake, c8, c21, if_true]; rw [if_neg (by rw [Int32.not_lt]; exact c43), if_neg hq])
      · first | refine r_aload_n dX3_make_46 rfl ?_ | refine r_aload_nq dX3_make_46 rfl ?_ | refine r_aload_nN dX3_make_46 rfl ?_
        refine r_bipush (v := 16) dX3_make_47 rfl ?_
        first | refine r_aload_n dX3_make_49 rfl ?_ | refine r_aload_nq dX3_make_49 rfl ?_ | refine r_aload_nN dX3_make_49 rfl ?_
        refine r_getfield 3 0 dX3_make_50 rfl (Nat.le_of_ble_eq_true rfl) (lkA q1890) (Or.inl rfl) (Or.inl (m_o hi)) (by rfl) ?_
        refine r_iload_n dX3_make_53 rfl ?_
        refine r_iaload (14 + tn x) dX3_make_54 (by first | exact Or.inl (m_a0 hi) | exact Or.inl (m_a1 hi) | exact Or.inl (m_a2 hi) | exact Or.inl (m_a3 hi) | exact Or.inl (m_a4 hi) | exact Or.inl (m_a5 hi) | exact Or.inl (m_a6 hi)) (by have hq : (tn x : Int) = x.toInt := (by (try simp only [bi_0, Bool.not_eq_false, s10, ss0] at c8); have this : (0:Int) ≤ x.toInt ∧ x.toInt ≤ 2 := isn_t.mp c8; unfold tn; omega); have hq2 : tn x < 3 := (by (try simp only [bi_0, Bool.not_eq_false, s10, ss0] at c8); have this : (0:Int) ≤ x.toInt ∧ x.toInt ≤ 2 := isn_t.mp c8; unfold tn; omega); simp only [tI_add, tI_sub, tI_mul, tI_neg, Int32.reduceToInt]; omega) (by have hq2 : tn x < 3 := (by (try simp only [bi_0, Bool.not_eq_false, s10, ss0] at c8); have this : (0:Int) ≤ x.toInt ∧ x.toInt ≤ 2 := isn_t.mp c8; unfold tn; omega); omega) rfl ?_
        refine r_invV dX3_make_55 (sp_X3_refuses hi) rfl mo_X3_refuses (Or.inl (m_o hi)) rfl (lkA q1950) (lkA q1952) (lkA qs31) rfl (lkA q82) mp_X3_refuses (Nat.le_of_ble_eq_true rfl) (Nat.le_of_ble_eq_true rfl) (Nat.le_of_ble_eq_true rfl) (kr_e ?_) kx_e
        exact r_ireturn dX3_make_58 rfl (by first | rfl | exact bi_nar) (mE_R (by (try simp only [bi_0, Bool.not_eq_false, s10, ss0] at c8); (try simp only [bi_0, Bool.not_eq_false, s10, ss0] at c21); simp only [oMake, c8, c21, if_true]; exact if_pos (Int32.not_le.mp c43)) rfl)
    · refine r_bipush (v := (-12)) dX3_make_24 rfl ?_
      exact r_ireturn dX3_make_26 rfl (by first | rfl | exact bi_nar) (mE_C (by (try simp only [bi_0, Bool.not_eq_false, s10, ss0] at c8); (try simp only [bi_0, Bool.not_eq_false, s10, ss0] at c21); simp only [oMake, c8, c21, if_true, Bool.false_eq_true, if_false]) rfl)
  · refine r_bipush (v := (-11)) dX3_make_11 rfl ?_
    exact r_ireturn dX3_make_13 rfl (by first | rfl | exact bi_nar) (mE_C (by (try simp only [bi_0, Bool.not_eq_false, s10, ss0] at c8); simp only [oMake, c8, Bool.false_eq_true, if_false]) rfl)

