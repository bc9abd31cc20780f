set_option maxRecDepth 100000
theorem nI_tn {x : Int32} (h : 0 ≤ x.toInt) : nI (tn x) = x := by
  rw [i32_eq, nI_toInt (by unfold tn; have := x.toInt_lt; omega)]
  unfold tn
  omega
theorem tn_nI {n : Nat} (h : n < 2 ^ 31) : tn (nI n) = n := by
  unfold tn
  rw [nI_toInt h]
  omega
/-- where a seller stands -/
theorem at_of {D : Int} {w : Nat → Int32} {s : Nat} (hI : Inv D w) (hs : (s : Int) < (w 2).toInt) : (gSl w s 1).toInt = (tn (gSl w s 1) : Int) ∧ tn (gSl w s 1) < 20 ∧ nI (tn (gSl w s 1)) = gSl w s 1 := by
  have h1 := (hI.2.2.2.2.2.1 s hs).2.1
  refine ⟨?_, ?_, nI_tn h1.1⟩ <;> unfold tn <;> omega
theorem pets_eq {S : Nat → Nat → Int32} {s h : Nat} (hs : s < 4) (hh : h < 20) :
    ss (sa S 0 (upd (upd (upd (S 0) (17 + 9 * s + 2) (S 0 (17 + 9 * s + 2) + 10)) 13 (upd (S 0) (17 + 9 * s + 2) (S 0 (17 + 9 * s + 2) + 10) 13 + 1)) (53 + 4 * h + 1) (9 + 1))) 8 9 = ss (sa S 0 (upd (upd (upd (S 0) (17 + 9 * s + 2) (gSl (S 0) s 2 + 10)) 13 (S 0 13 + 1)) (53 + 4 * h + 1) 10)) 8 9 := by
  rw [show upd (S 0) (17 + 9 * s + 2) (S 0 (17 + 9 * s + 2) + 10) 13 = S 0 13 from upd_n (by omega)]
  rfl
set_option maxHeartbeats 4000000 in
set_option maxRecDepth 100000 in
theorem sp_X3_pets {G : GG} {A : Nat → Nat} {S : Nat → Nat → Int32} {h : HP} (hi : inj 8 mdom A) {D : Int} (hI : Inv D (S 0)) {x : Int32} : Ct G 2 0 M_X3_pets [.ref (A 7), .int x] (ov (mdH A S) h) (eQ (some (.int (mres S (oPets (S 0) x)).1)) (ov (mdH A (mres S (oPets (S 0) x)).2) h)) := by
  refine ct_intro my_X3_pets (Nat.le_of_ble_eq_true rfl) ?_
  first | refine r_aload_n dX3_pets_0 rfl ?_ | refine r_aload_nq dX3_pets_0 rfl ?_ | refine r_aload_nN dX3_pets_0 rfl ?_
  refine r_iload_n dX3_pets_1 rfl ?_
  refine r_invV dX3_pets_2 (sp_X3_isSeller hi) rfl mo_X3_isSeller (Or.inl (m_o hi)) rfl (lkA q1992) (lkA q1994) (lkA qs37) rfl (lkA q82) mp_X3_isSeller (Nat.le_of_ble_eq_true rfl) (Nat.le_of_ble_eq_true rfl) (Nat.le_of_ble_eq_true rfl) (kr_e ?_) kx_e
  refine r_if_ne 11 dX3_pets_5 rfl (fun c5 => ?_) (fun c5 => ?_)
  · have hS := isS_of hI c5
    first | refine r_aload_n dX3_pets_11 rfl ?_ | refine r_aload_nq dX3_pets_11 rfl ?_ | refine r_aload_nN dX3_pets_11 rfl ?_
    refine r_iload_n dX3_pets_12 rfl ?_
    refine r_iconst (v := 1) dX3_pets_13 rfl ?_
    refine r_invV dX3_pets_14 (sp_X3_of hi (tn x) 1 hS.2.1 rfl (by have := hS.2.2.1; omega)) rfl mo_X3_of (Or.inl (m_o hi)) rfl (lkA q1996) (lkA q1998) (lkA qs38) rfl (lkA q82) mp_X3_of (Nat.le_of_ble_eq_true rfl) (Nat.le_of_ble_eq_true rfl) (Nat.le_of_ble_eq_true rfl) (kr_e ?_) kx_e
    refine r_istore_n dX3_pets_17 (Nat.le_of_ble_eq_true rfl) ?_
    have hA := at_of hI hS.2.2.2
    first | refine r_aload_n dX3_pets_18 rfl ?_ | refine r_aload_nq dX3_pets_18 rfl ?_ | refine r_aload_nN dX3_pets_18 rfl ?_
    refine r_iload_n dX3_pets_19 rfl ?_
    refine r_invV dX3_pets_20 (sp_X3_mood hi (tn (gSl (S 0) (tn x) 1)) hA.1 hA.2.1) rfl mo_X3_mood (Or.inl (m_o hi)) rfl (lkA q1965) (lkA q1967) (lkA qs33) rfl (lkA q82) mp_X3_mood (Nat.le_of_ble_eq_true rfl) (Nat.le_of_ble_eq_true rfl) (Nat.le_of_ble_eq_true rfl) (kr_e ?_) kx_e
    refine r_istore_n dX3_pets_23 (Nat.le_of_ble_eq_true rfl) ?_
    refine r_iload_n dX3_pets_24 rfl ?_
    refine r_if_ge 36 dX3_pets_25 rfl (fun c25 => ?_) (fun c25 => ?_)
    · refine r_iload_n dX3_pets_36 rfl ?_
      refine r_bipush (v := 7) dX3_pets_37 rfl ?_
      refine r_icmp_lt 99 dX3_pets_39 rfl (fun c39 => ?_) (fun c39 => ?_)
      · refine r_iconst (v := 0) dX3_pets_99 rfl ?_
        refine r_iload_n dX3_pets_100 rfl ?_
        refine r_iconst (v := 2) dX3_pets_101 rfl ?_
        refine r_isub dX3_pets_102 ?_
        refine r_mmax dX3_pets_103 (lkA q2060) (lkA q248) (lkA q74) (lkA q249) (Nat.le_of_ble_eq_true rfl) (Nat.le_of_ble_eq_true rfl) ?_
        refine r_istore_n dX3_pets_106 (Nat.le_of_ble_eq_true rfl) ?_
        first | refine r_aload_n dX3_pets_107 rfl ?_ | refine r_aload_nq dX3_pets_107 rfl ?_ | refine r_aload_nN dX3_pets_107 rfl ?_
        refine r_getfield 3 0 dX3_pets_108 rfl (Nat.le_of_ble_eq_true rfl) (lkA q1890) (Or.inl rfl) (Or.inl (m_o hi)) (by rfl) ?_
        refine r_bipush (v := 53) dX3_pets_111 rfl ?_
        refine r_iconst (v := 4) dX3_pets_113 rfl ?_
        refine r_iload_n dX3_pets_114 rfl ?_
        refine r_imul dX3_pets_115 ?_
        refine r_iadd dX3_pets_116 ?_
        refine r_iconst (v := 1) dX3_pets_117 rfl ?_
        refine r_iadd dX3_pets_118 ?_
        refine r_iload_n dX3_pets_119 rfl ?_
        refine r_iconst (v := 1) dX3_pets_120 rfl ?_
        refine r_iadd dX3_pets_121 ?_
        refine r_iastore (53 + 4 * tn (gSl (S 0) (tn x) 1) + 1) dX3_pets_122 (m_a0 hi) (by have := hA.1; have := hA.2.1; simp only [tI_add, tI_sub, tI_mul, tI_neg, Int32.reduceToInt]; omega) (by have := hA.2.1; omega) ?_
        rw [m_w0 hi]
        first | refine r_aload_n dX3_pets_123 rfl ?_ | refine r_aload_nq dX3_pets_123 rfl ?_ | refine r_aload_nN dX3_pets_123 rfl ?_
        refine r_iload_n dX3_pets_124 rfl ?_
        refine r_invV dX3_pets_125 (sp_X3_does hi) rfl mo_X3_does (Or.inl (m_o hi)) rfl (lkA q2004) (lkA q2006) (lkA qs40) rfl (lkA q82) mp_X3_does (Nat.le_of_ble_eq_true rfl) (Nat.le_of_ble_eq_true rfl) (Nat.le_of_ble_eq_true rfl) (kr_e ?_) kx_e
        exact r_ireturn dX3_pets_128 rfl (by first | rfl | exact bi_nar) (res_K (by (try simp only [bi_0, Bool.not_eq_false, s10, ss0, ← Int32.not_lt, Classical.not_not] at c5); (try simp only [bi_0, Bool.not_eq_false, s10, ss0, ← Int32.not_lt, Classical.not_not] at c25); (try simp only [bi_0, Bool.not_eq_false, s10, ss0, ← Int32.not_lt, Classical.not_not] at c39); simp only [oPets, gPetR, ← Int32.not_lt, c5, c25, c39, if_true, if_false, eq_self, Bool.false_eq_true, not_true_eq_false, not_false_eq_true, true_and, and_true, false_and, and_false, decide_true, decide_false, Bool.not_true, Bool.not_false, Bool.true_and, Bool.false_and]; try rfl) rfl)
      · first | refine r_aload_n dX3_pets_42 rfl ?_ | refine r_aload_nq dX3_pets_42 rfl ?_ | refine r_aload_nN dX3_pets_42 rfl ?_
        refine r_iload_n dX3_pets_43 rfl ?_
        refine r_iconst (v := 2) dX3_pets_44 rfl ?_
        refine r_invV dX3_pets_45 (sp_X3_of hi (tn x) 2 hS.2.1 rfl (by have := hS.2.2.1; omega)) rfl mo_X3_of (Or.inl (m_o hi)) rfl (lkA q1996) (lkA q1998) (lkA qs38) rfl (lkA q82) mp_X3_of (Nat.le_of_ble_eq_true rfl) (Nat.le_of_ble_eq_true rfl) (Nat.le_of_ble_eq_true rfl) (kr_e ?_) kx_e
        refine r_bipush (v := 10) dX3_pets_48 rfl ?_
        refine r_iadd dX3_pets_50 ?_
        refine r_bipush (v := 100) dX3_pets_51 rfl ?_
        refine r_icmp_le 74 dX3_pets_53 rfl (fun c53 => ?_) (fun c53 => ?_)
        · first | refine r_aload_n dX3_pets_74 rfl ?_ | refine r_aload_nq dX3_pets_74 rfl ?_ | refine r_aload_nN dX3_pets_74 rfl ?_
          refine r_iload_n dX3_pets_75 rfl ?_
          refine r_iconst (v := 2) dX3_pets_76 rfl ?_
          refine r_bipush (v := 10) dX3_pets_77 rfl ?_
          refine r_invV dX3_pets_79 (sp_X3_adds hi (tn x) 2 hS.2.1 rfl (by have := hS.2.2.1; omega)) rfl mo_X3_adds (Or.inl (m_o hi)) rfl (lkA q2000) (lkA q2002) (lkA qs39) rfl (lkA q82) mp_X3_adds (Nat.le_of_ble_eq_true rfl) (Nat.le_of_ble_eq_true rfl) (Nat.le_of_ble_eq_true rfl) (kr_e ?_) kx_e
          first | refine r_aload_n dX3_pets_82 rfl ?_ | refine r_aload_nq dX3_pets_82 rfl ?_ | refine r_aload_nN dX3_pets_82 rfl ?_
          refine r_getfield 3 0 dX3_pets_83 rfl (Nat.le_of_ble_eq_true rfl) (lkA q1890) (Or.inl rfl) (Or.inl (m_o hi)) (by rfl) ?_
          refine r_bipush (v := 13) dX3_pets_86 rfl ?_
          refine r_dup2 dX3_pets_88 rfl rfl ?_
          refine r_iaload (13) dX3_pets_89 (by first | exact Or.inl (m_a0 hi) | exact Or.inl (m_a1 hi) | exact Or.inl (m_a2 hi) | exact Or.inl (m_a3 hi) | exact Or.inl (m_a4 hi) | exact Or.inl (m_a5 hi) | exact Or.inl (m_a6 hi)) rfl (Nat.le_of_ble_eq_true rfl) rfl ?_
          refine r_iconst (v := 1) dX3_pets_90 rfl ?_
          refine r_iadd dX3_pets_91 ?_
          refine r_iastore (13) dX3_pets_92 (m_a0 hi) rfl (Nat.le_of_ble_eq_true rfl) ?_
          rw [m_w0 hi]
          refine r_bipush (v := 9) dX3_pets_93 rfl ?_
          refine r_istore_n dX3_pets_95 (Nat.le_of_ble_eq_true rfl) ?_
          refine r_goto 107 dX3_pets_96 rfl ?_
          first | refine r_aload_n dX3_pets_107 rfl ?_ | refine r_aload_nq dX3_pets_107 rfl ?_ | refine r_aload_nN dX3_pets_107 rfl ?_
          refine r_getfield 3 0 dX3_pets_108 rfl (Nat.le_of_ble_eq_true rfl) (lkA q1890) (Or.inl rfl) (Or.inl (m_o hi)) (by rfl) ?_
          refine r_bipush (v := 53) dX3_pets_111 rfl ?_
          refine r_iconst (v := 4) dX3_pets_113 rfl ?_
          refine r_iload_n dX3_pets_114 rfl ?_
          refine r_imul dX3_pets_115 ?_
          refine r_iadd dX3_pets_116 ?_
          refine r_iconst (v := 1) dX3_pets_117 rfl ?_
          refine r_iadd dX3_pets_118 ?_
          refine r_iload_n dX3_pets_119 rfl ?_
          refine r_iconst (v := 1) dX3_pets_120 rfl ?_
          refine r_iadd dX3_pets_121 ?_
          refine r_iastore (53 + 4 * tn (gSl (S 0) (tn x) 1) + 1) dX3_pets_122 (m_a0 hi) (by have := hA.1; have := hA.2.1; simp only [tI_add, tI_sub, tI_mul, tI_neg, Int32.reduceToInt]; omega) (by have := hA.2.1; omega) ?_
          rw [m_w0 hi]
          first | refine r_aload_n dX3_pets_123 rfl ?_ | refine r_aload_nq dX3_pets_123 rfl ?_ | refine r_aload_nN dX3_pets_123 rfl ?_
          refine r_iload_n dX3_pets_124 rfl ?_
          refine r_invV dX3_pets_125 (sp_X3_does hi) rfl mo_X3_does (Or.inl (m_o hi)) rfl (lkA q2004) (lkA q2006) (lkA qs40) rfl (lkA q82) mp_X3_does (Nat.le_of_ble_eq_true rfl) (Nat.le_of_ble_eq_true rfl) (Nat.le_of_ble_eq_true rfl) (kr_e ?_) kx_e
          exact r_ireturn dX3_pets_128 rfl (by first | rfl | exact bi_nar) (res_K (by (try simp only [bi_0, Bool.not_eq_false, s10, ss0, ← Int32.not_lt, Classical.not_not] at c5); (try simp only [bi_0, Bool.not_eq_false, s10, ss0, ← Int32.not_lt, Classical.not_not] at c25); (try simp only [bi_0, Bool.not_eq_false, s10, ss0, ← Int32.not_lt, Classical.not_not] at c39); (try simp only [bi_0, Bool.not_eq_false, s10, ss0, ← Int32.not_lt, Classical.not_not] at c53); simp only [oPets, gPetR, ← Int32.not_lt, c5, c25, c39, c53, if_true, if_false, eq_self, Bool.false_eq_true, not_true_eq_false, not_false_eq_true, true_and, and_true, false_and, and_false, decide_true, decide_false, Bool.not_true, Bool.not_false, Bool.true_and, Bool.false_and]; try rfl) (by simp only [sa_sa, sa_s]; exact pets_eq hS.2.2.1 hA.2.1))
        · first | refine r_aload_n dX3_pets_56 rfl ?_ | refine r_aload_nq dX3_pets_56 rfl ?_ | refine r_aload_nN dX3_pets_56 rfl ?_
          refine r_iconst (v := 2) dX3_pets_57 rfl ?_
          first | refine r_aload_n dX3_pets_58 rfl ?_ | refine r_aload_nq dX3_pets_58 rfl ?_ | refine r_aload_nN dX3_pets_58 rfl ?_
          refine r_iload_n dX3_pets_59 rfl ?_
          refine r_iconst (v := 2) dX3_pets_60 rfl ?_
          refine r_invV dX3_pets_61 (sp_X3_of hi (tn x) 2 hS.2.1 rfl (by have := hS.2.2.1; omega)) rfl mo_X3_of (Or.inl (m_o hi)) rfl (lkA q1996) (lkA q1998) (lkA qs38) rfl (lkA q82) mp_X3_of (Nat.le_of_ble_eq_true rfl) (Nat.le_of_ble_eq_true rfl) (Nat.le_of_ble_eq_true rfl) (kr_e ?_) kx_e
          refine r_bipush (v := 10) dX3_pets_64 rfl ?_
          refine r_iadd dX3_pets_66 ?_
          refine r_bipush (v := 100) dX3_pets_67 rfl ?_
          refine r_isub dX3_pets_69 ?_
          refine r_invV dX3_pets_70 (sp_X3_refuses hi) rfl mo_X3_refuses (Or.inl (m_o hi)) rfl (lkA q1950) (lkA q1952) (lkA qs31) rfl (lkA q82) mp_X3_refuses (Nat.le_of_ble_eq_true rfl) (Nat.le_of_ble_eq_true rfl) (Nat.le_of_ble_eq_true rfl) (kr_e ?_) kx_e
          exact r_ireturn dX3_pets_73 rfl (by first | rfl | exact bi_nar) (res_R (by (try simp only [bi_0, Bool.not_eq_false, s10, ss0, ← Int32.not_lt, Classical.not_not] at c5); (try simp only [bi_0, Bool.not_eq_false, s10, ss0, ← Int32.not_lt, Classical.not_not] at c25); (try simp only [bi_0, Bool.not_eq_false, s10, ss0, ← Int32.not_lt, Classical.not_not] at c39); (try simp only [bi_0, Bool.not_eq_false, s10, ss0, ← Int32.not_lt, Classical.not_not] at c53); simp only [oPets, gPetR, ← Int32.not_lt, c5, c25, c39, c53, if_true, if_false, eq_self, Bool.false_eq_true, not_true_eq_false, not_false_eq_true, true_and, and_true, false_and, and_false, decide_true, decide_false, Bool.not_true, Bool.not_false, Bool.true_and, Bool.false_and]; try rfl) rfl)
    · first | refine r_aload_n dX3_pets_28 rfl ?_ | refine r_aload_nq dX3_pets_28 rfl ?_ | refine r_aload_nN dX3_pets_28 rfl ?_
      refine r_bipush (v := 10) dX3_pets_29 rfl ?_
      refine r_iload_n dX3_pets_31 rfl ?_
      refine r_invV dX3_pets_32 (sp_X3_refuses hi) rfl mo_X3_refuses (Or.inl (m_o hi)) rfl (lkA q1950) (lkA q1952) (lkA qs31) rfl (lkA q82) mp_X3_refuses (Nat.le_of_ble_eq_true rfl) (Nat.le_of_ble_eq_true rfl) (Nat.le_of_ble_eq_true rfl) (kr_e ?_) kx_e
      exact r_ireturn dX3_pets_35 rfl (by first | rfl | exact bi_nar) (res_R (by (try simp only [bi_0, Bool.not_eq_false, s10, ss0, ← Int32.not_lt, Classical.not_not] at c5); (try simp only [bi_0, Bool.not_eq_false, s10, ss0, ← Int32.not_lt, Classical.not_not] at c25); simp only [oPets, gPetR, hA.2.2, ← Int32.not_lt, c5, c25, if_true, if_false, eq_self, Bool.false_eq_true, not_true_eq_false, not_false_eq_true, true_and, and_true, false_and, and_false, decide_true, decide_false, Bool.not_true, Bool.not_false, Bool.true_and, Bool.false_and]; try rfl) rfl)
  · refine r_bipush (v := (-11)) dX3_pets_8 rfl ?_
    exact r_ireturn dX3_pets_10 rfl (by first | rfl | exact bi_nar) (res_C (by (try simp only [bi_0, Bool.not_eq_false, s10, ss0, ← Int32.not_lt, Classical.not_not] at c5); simp only [oPets, gPetR, ← Int32.not_lt, c5, if_true, if_false, eq_self, Bool.false_eq_true, not_true_eq_false, not_false_eq_true, true_and, and_true, false_and, and_false, decide_true, decide_false, Bool.not_true, Bool.not_false, Bool.true_and, Bool.false_and]; try rfl) rfl)

def oRounds (w : Nat → Int32) (s h : Int32) : Int32 := if isS w s = true ∧ isH h = true then (if 2 * iabs (h - gSl w (tn s) 1) = 0 then -15 else (100 - gSl w (tn s) 2) / (2 * iabs (h - gSl w (tn s) 1))) else -11
set_option maxHeartbeats 4000000 in
set_option maxRecDepth 100000 in
theorem sp_X3_rounds {G : GG} {A : Nat → Nat} {S : Nat → Nat → Int32} {h : HP} (hi : inj 8 mdom A) {D : Int} (hI : Inv D (S 0)) {x y : Int32} : Ct G 2 0 M_X3_rounds [.ref (A 7), .int x, .int y] (ov (mdH A S) h) (eQ (some (.int (oRounds (S 0) x y))) (ov (mdH A S) h)) := by
  refine ct_intro my_X3_rounds (Nat.le_of_ble_eq_true rfl) ?_
  first | refine r_aload_n dX3_rounds_0 rfl ?_ | refine r_aload_nq dX3_rounds_0 rfl ?_ | refine r_aload_nN dX3_rounds_0 rfl ?_
  refine r_iload_n dX3_rounds_1 rfl ?_
  refine r_invV dX3_rounds_2 (sp_X3_isSeller hi) rfl mo_X3_isSeller (Or.inl (m_o hi)) rfl (lkA q1992) (lkA q1994) (lkA qs37) rfl (lkA q82) mp_X3_isSeller (Nat.le_of_ble_eq_true rfl) (Nat.le_of_ble_eq_true rfl) (Nat.le_of_ble_eq_true rfl) (kr_e ?_) kx_e
  refine r_if_eq 15 dX3_rounds_5 rfl (fun c5 => ?_) (fun c5 => ?_)
  · refine r_bipush (v := (-11)) dX3_rounds_15 rfl ?_
    exact r_ireturn dX3_rounds_17 rfl (by first | rfl | exact bi_nar) (by refine ⟨?_, rfl⟩; (try simp only [bi_0, Bool.not_eq_false, s10, ss0, ← Int32.not_lt, Classical.not_not] at c5); simp only [oRounds, ← Int32.not_lt, c5, if_true, if_false, eq_self, Bool.false_eq_true, not_true_eq_false, not_false_eq_true, true_and, and_true, false_and, and_false, decide_true, decide_false, Bool.not_true, Bool.not_false, Bool.true_and, Bool.false_and]; try rfl)
  · have hS := isS_of hI c5
    refine r_iload_n dX3_rounds_8 rfl ?_
    refine r_invS dX3_rounds_9 (sp_X3_isHouse ) rfl mo_X3_isHouse (lkA q1962) (lkA q1963) (lkA q82) mp_X3_isHouse (Nat.le_of_ble_eq_true rfl) (Nat.le_of_ble_eq_true rfl) (Nat.le_of_ble_eq_true rfl) (kr_e ?_) kx_e
    refine r_if_ne 18 dX3_rounds_12 rfl (fun c12 => ?_) (fun c12 => ?_)
    · have hH := isH_of c12
      refine r_iconst (v := 2) dX3_rounds_18 rfl ?_
      refine r_iload_n dX3_rounds_19 rfl ?_
      first | refine r_aload_n dX3_rounds_20 rfl ?_ | refine r_aload_nq dX3_rounds_20 rfl ?_ | refine r_aload_nN dX3_rounds_20 rfl ?_
      refine r_iload_n dX3_rounds_21 rfl ?_
      refine r_iconst (v := 1) dX3_rounds_22 rfl ?_
      refine r_invV dX3_rounds_23 (sp_X3_of hi (tn x) 1 hS.2.1 rfl (by have := hS.2.2.1; omega)) rfl mo_X3_of (Or.inl (m_o hi)) rfl (lkA q1996) (lkA q1998) (lkA qs38) rfl (lkA q82) mp_X3_of (Nat.le_of_ble_eq_true rfl) (Nat.le_of_ble_eq_true rfl) (Nat.le_of_ble_eq_true rfl) (kr_e ?_) kx_e
      refine r_isub dX3_rounds_26 ?_
      refine r_mabs dX3_rounds_27 (lkA q2039) (lkA q1267) (lkA q74) (lkA q1268) (Nat.le_of_ble_eq_true rfl) (Nat.le_of_ble_eq_true rfl) ?_
      refine r_imul dX3_rounds_30 ?_
      refine r_istore_n dX3_rounds_31 (Nat.le_of_ble_eq_true rfl) ?_
      refine r_iload_n dX3_rounds_32 rfl ?_
      refine r_if_ne 41 dX3_rounds_33 rfl (fun c33 => ?_) (fun c33 => ?_)
      · refine r_bipush (v := 100) dX3_rounds_41 rfl ?_
        first | refine r_aload_n dX3_rounds_43 rfl ?_ | refine r_aload_nq dX3_rounds_43 rfl ?_ | refine r_aload_nN dX3_rounds_43 rfl ?_
        refine r_iload_n dX3_rounds_44 rfl ?_
        refine r_iconst (v := 2) dX3_rounds_45 rfl ?_
        refine r_invV dX3_rounds_46 (sp_X3_of hi (tn x) 2 hS.2.1 rfl (by have := hS.2.2.1; omega)) rfl mo_X3_of (Or.inl (m_o hi)) rfl (lkA q1996) (lkA q1998) (lkA qs38) rfl (lkA q82) mp_X3_of (Nat.le_of_ble_eq_true rfl) (Nat.le_of_ble_eq_true rfl) (Nat.le_of_ble_eq_true rfl) (kr_e ?_) kx_e
        refine r_isub dX3_rounds_49 ?_
        refine r_iload_n dX3_rounds_50 rfl ?_
        refine r_idiv dX3_rounds_51 c33 ?_
        exact r_ireturn dX3_rounds_52 rfl (by first | rfl | exact bi_nar) (by refine ⟨?_, rfl⟩; (try simp only [bi_0, Bool.not_eq_false, s10, ss0, ← Int32.not_lt, Classical.not_not] at c5); (try simp only [bi_0, Bool.not_eq_false, s10, ss0, ← Int32.not_lt, Classical.not_not] at c12); (try simp only [bi_0, Bool.not_eq_false, s10, ss0, ← Int32.not_lt, Classical.not_not] at c33); simp only [oRounds, ← Int32.not_lt, c5, c12, c33, if_true, if_false, eq_self, Bool.false_eq_true, not_true_eq_false, not_false_eq_true, true_and, and_true, false_and, and_false, decide_true, decide_false, Bool.not_true, Bool.not_false, Bool.true_and, Bool.false_and]; try rfl)
      · refine r_bipush (v := (-15)) dX3_rounds_36 rfl ?_
        refine r_goto 52 dX3_rounds_38 rfl ?_
        exact r_ireturn dX3_rounds_52 rfl (by first | rfl | exact bi_nar) (by refine ⟨?_, rfl⟩; (try simp only [bi_0, Bool.not_eq_false, s10, ss0, ← Int32.not_lt, Classical.not_not] at c5); (try simp only [bi_0, Bool.not_eq_false, s10, ss0, ← Int32.not_lt, Classical.not_not] at c12); (try simp only [bi_0, Bool.not_eq_false, s10, ss0, ← Int32.not_lt, Classical.not_not] at c33); simp only [oRounds, ← Int32.not_lt, c5, c12, c33, if_true, if_false, eq_self, Bool.false_eq_true, not_true_eq_false, not_false_eq_true, true_and, and_true, false_and, and_false, decide_true, decide_false, Bool.not_true, Bool.not_false, Bool.true_and, Bool.false_and]; try rfl)
    · refine r_bipush (v := (-11)) dX3_rounds_15 rfl ?_
      exact r_ireturn dX3_rounds_17 rfl (by first | rfl | exact bi_nar) (by refine ⟨?_, rfl⟩; (try simp only [bi_0, Bool.not_eq_false, s10, ss0, ← Int32.not_lt, Classical.not_not] at c5); (try simp only [bi_0, Bool.not_eq_false, s10, ss0, ← Int32.not_lt, Classical.not_not] at c12); simp only [oRounds, ← Int32.not_lt, c5, c12, if_true, if_false, eq_self, Bool.false_eq_true, not_true_eq_false, not_false_eq_true, true_and, and_true, false_and, and_false, decide_true, decide_false, Bool.not_true, Bool.not_false, Bool.true_and, Bool.false_and]; try rfl)

set_option maxHeartbeats 4000000 in
set_option maxRecDepth 100000 in
theorem sp_X3_roundsAgain {G : GG} {A : Nat → Nat} {S : Nat → Nat → Int32} {h : HP} (hi : inj 8 mdom A) {D : Int} (hI : Inv D (S 0)) {x y : Int32} : Ct G 3 0 M_X3_roundsAgain [.ref (A 7), .int x, .int y] (ov (mdH A S) h) (eQ (some (.int (oRounds (S 0) x y))) (ov (mdH A S) h)) := by
  refine ct_intro my_X3_roundsAgain (Nat.le_of_ble_eq_true rfl) ?_
  first | refine r_aload_n dX3_roundsAgain_0 rfl ?_ | refine r_aload_nq dX3_roundsAgain_0 rfl ?_ | refine r_aload_nN dX3_roundsAgain_0 rfl ?_
  refine r_iload_n dX3_roundsAgain_1 rfl ?_
  refine r_iload_n dX3_roundsAgain_2 rfl ?_
  refine r_invV dX3_roundsAgain_3 (sp_X3_rounds hi hI) rfl mo_X3_rounds (Or.inl (m_o hi)) rfl (lkA q2069) (lkA q2062) (lkA q2063) rfl (lkA q82) mp_X3_rounds (Nat.le_of_ble_eq_true rfl) (Nat.le_of_ble_eq_true rfl) (Nat.le_of_ble_eq_true rfl) (kr_e ?_) kx_e
  exact r_ireturn dX3_roundsAgain_6 rfl (by first | rfl | exact bi_nar) (by first | exact ⟨rfl, rfl⟩ | rfl)

set_option maxHeartbeats 4000000 in
set_option maxRecDepth 100000 in
theorem sp_X3_listens {G : GG} {A : Nat → Nat} {S : Nat → Nat → Int32} {h : HP} (hi : inj 8 mdom A) {x y : Int32} (s k : Nat) (hx : x.toInt = (s : Int)) (hy : y.toInt = (k : Int)) (hs : s < 4) (hk : k < 20) : Ct G 2 0 M_X3_listens [.ref (A 7), .int x, .int y] (ov (mdH A S) h) (eQ (some (.int (bi (gListens (S 0) s k)))) (ov (mdH A S) h)) := by
  refine ct_intro my_X3_listens (Nat.le_of_ble_eq_true rfl) ?_
  have hhx : nI k = y := by rw [i32_eq, nI_toInt (by omega), hy]
  first | refine r_aload_n dX3_listens_0 rfl ?_ | refine r_aload_nq dX3_listens_0 rfl ?_ | refine r_aload_nN dX3_listens_0 rfl ?_
  refine r_iload_n dX3_listens_1 rfl ?_
  refine r_invV dX3_listens_2 (sp_X3_mood hi k hy hk) rfl mo_X3_mood (Or.inl (m_o hi)) rfl (lkA q1965) (lkA q1967) (lkA qs33) rfl (lkA q82) mp_X3_mood (Nat.le_of_ble_eq_true rfl) (Nat.le_of_ble_eq_true rfl) (Nat.le_of_ble_eq_true rfl) (kr_e ?_) kx_e
  refine r_istore_n dX3_listens_5 (Nat.le_of_ble_eq_true rfl) ?_
  first | refine r_aload_n dX3_listens_6 rfl ?_ | refine r_aload_nq dX3_listens_6 rfl ?_ | refine r_aload_nN dX3_listens_6 rfl ?_
  refine r_iload_n dX3_listens_7 rfl ?_
  refine r_iconst (v := 0) dX3_listens_8 rfl ?_
  refine r_invV dX3_listens_9 (sp_X3_of hi s 0 hx rfl (by omega)) rfl mo_X3_of (Or.inl (m_o hi)) rfl (lkA q1996) (lkA q1998) (lkA qs38) rfl (lkA q82) mp_X3_of (Nat.le_of_ble_eq_true rfl) (Nat.le_of_ble_eq_true rfl) (Nat.le_of_ble_eq_true rfl) (kr_e ?_) kx_e
  first | refine r_aload_n dX3_listens_12 rfl ?_ | refine r_aload_nq dX3_listens_12 rfl ?_ | refine r_aload_nN dX3_listens_12 rfl ?_
  refine r_iload_n dX3_listens_13 rfl ?_
  refine r_invV dX3_listens_14 (sp_X3_temper hi k hy hk) rfl mo_X3_temper (Or.inl (m_o hi)) rfl (lkA q2023) (lkA q2025) (lkA qs42) rfl (lkA q82) mp_X3_temper (Nat.le_of_ble_eq_true rfl) (Nat.le_of_ble_eq_true rfl) (Nat.le_of_ble_eq_true rfl) (kr_e ?_) kx_e
  refine r_iadd dX3_listens_17 ?_
  refine r_iload_n dX3_listens_18 rfl ?_
  refine r_iconst (v := 0) dX3_listens_19 rfl ?_
  refine r_iconst (v := 2) dX3_listens_20 rfl ?_
  refine r_invS dX3_listens_21 (sp_X3_in ) rfl mo_X3_in (lkA q1947) (lkA q1948) (lkA q82) mp_X3_in (Nat.le_of_ble_eq_true rfl) (Nat.le_of_ble_eq_true rfl) (Nat.le_of_ble_eq_true rfl) (kr_e ?_) kx_e
  refine r_if_eq 31 dX3_listens_24 rfl (fun c24 => ?_) (fun c24 => ?_)
  · refine r_iconst (v := 0) dX3_listens_31 rfl ?_
    refine r_iadd dX3_listens_32 ?_
    refine r_iload_n dX3_listens_33 rfl ?_
    refine r_invS dX3_listens_34 (sp_X3_steps ) rfl mo_X3_steps (lkA q2020) (lkA q2021) (lkA q82) mp_X3_steps (Nat.le_of_ble_eq_true rfl) (Nat.le_of_ble_eq_true rfl) (Nat.le_of_ble_eq_true rfl) (kr_e ?_) kx_e
    refine r_bipush (v := 6) dX3_listens_37 rfl ?_
    refine r_iadd dX3_listens_39 ?_
    refine r_icmp_lt 47 dX3_listens_40 rfl (fun c40 => ?_) (fun c40 => ?_)
    · refine r_iconst (v := 0) dX3_listens_47 rfl ?_
      exact r_ireturn dX3_listens_48 rfl (by first | rfl | exact bi_nar) (by refine ⟨?_, rfl⟩; (try simp only [bi_0, Bool.not_eq_false] at c24); congr 2; first | exact bi_t (by simp only [gListens, hhx, c24, if_true, Bool.false_eq_true, if_false, decide_eq_true_eq]; exact Int32.not_lt.mp c40) | exact bi_f (by simp only [gListens, hhx, c24, if_true, Bool.false_eq_true, if_false, decide_eq_false_iff_not]; exact Int32.not_le.mpr c40))
    · refine r_iconst (v := 1) dX3_listens_43 rfl ?_
      refine r_goto 48 dX3_listens_44 rfl ?_
      exact r_ireturn dX3_listens_48 rfl (by first | rfl | exact bi_nar) (by refine ⟨?_, rfl⟩; (try simp only [bi_0, Bool.not_eq_false] at c24); congr 2; first | exact bi_t (by simp only [gListens, hhx, c24, if_true, Bool.false_eq_true, if_false, decide_eq_true_eq]; exact Int32.not_lt.mp c40) | exact bi_f (by simp only [gListens, hhx, c24, if_true, Bool.false_eq_true, if_false, decide_eq_false_iff_not]; exact Int32.not_le.mpr c40))
  · refine r_iconst (v := 3) dX3_listens_27 rfl ?_
    refine r_goto 32 dX3_listens_28 rfl ?_
    refine r_iadd dX3_listens_32 ?_
    refine r_iload_n dX3_listens_33 rfl ?_
    refine r_invS dX3_listens_34 (sp_X3_steps ) rfl mo_X3_steps (lkA q2020) (lkA q2021) (lkA q82) mp_X3_steps (Nat.le_of_ble_eq_true rfl) (Nat.le_of_ble_eq_true rfl) (Nat.le_of_ble_eq_true rfl) (kr_e ?_) kx_e
    refine r_bipush (v := 6) dX3_listens_37 rfl ?_
    refine r_iadd dX3_listens_39 ?_
    refine r_icmp_lt 47 dX3_listens_40 rfl (fun c40 => ?_) (fun c40 => ?_)
    · refine r_iconst (v := 0) dX3_listens_47 rfl ?_
      exact r_ireturn dX3_listens_48 rfl (by first | rfl | exact bi_nar) (by refine ⟨?_, rfl⟩; (try simp only [bi_0, Bool.not_eq_false] at c24); congr 2; first | exact bi_t (by simp only [gListens, hhx, c24, if_true, Bool.false_eq_true, if_false, decide_eq_true_eq]; exact Int32.not_lt.mp c40) | exact bi_f (by simp only [gListens, hhx, c24, if_true, Bool.false_eq_true, if_false, decide_eq_false_iff_not]; exact Int32.not_le.mpr c40))
    · refine r_iconst (v := 1) dX3_listens_43 rfl ?_
      refine r_goto 48 dX3_listens_44 rfl ?_
      exact r_ireturn dX3_listens_48 rfl (by first | rfl | exact bi_nar) (by refine ⟨?_, rfl⟩; (try simp only [bi_0, Bool.not_eq_false] at c24); congr 2; first | exact bi_t (by simp only [gListens, hhx, c24, if_true, Bool.false_eq_true, if_false, decide_eq_true_eq]; exact Int32.not_lt.mp c40) | exact bi_f (by simp only [gListens, hhx, c24, if_true, Bool.false_eq_true, if_false, decide_eq_false_iff_not]; exact Int32.not_le.mpr c40))

theorem gW_f {w : Nat → Int32} {s h b : Nat} {p : Int32} (hl : ¬ gListens w s h = true) : gWants w s h b p = 0 := if_neg hl
theorem gW_t {w : Nat → Int32} {s h b : Nat} {p : Int32} (hl : gListens w s h = true) : gWants w s h b p = imax 0 (imin (3 - p / 3 + (if w (53 + 4 * h + 3) >>> (nI b &&& 31) &&& 1 = 0 then 1 else 0)) (gSl w s (3 + b))) := if_pos hl
set_option maxHeartbeats 4000000 in
set_option maxRecDepth 100000 in
theorem sp_X3_wants {G : GG} {A : Nat → Nat} {S : Nat → Nat → Int32} {h : HP} (hi : inj 8 mdom A) {x y z p : Int32} (s k b : Nat) (hx : x.toInt = (s : Int)) (hy : y.toInt = (k : Int)) (hz : z.toInt = (b : Int)) (hs : s < 4) (hk : k < 20) (hb : b < 3) : Ct G 3 0 M_X3_wants [.ref (A 7), .int x, .int y, .int z, .int p] (ov (mdH A S) h) (eQ (some (.int (gWants (S 0) s k b p))) (ov (mdH A S) h)) := by
  refine ct_intro my_X3_wants (Nat.le_of_ble_eq_true rfl) ?_
  have hhb : nI b = z := by rw [i32_eq, nI_toInt (by omega), hz]
  first | refine r_aload_n dX3_wants_0 rfl ?_ | refine r_aload_nq dX3_wants_0 rfl ?_ | refine r_aload_nN dX3_wants_0 rfl ?_
  refine r_iload_n dX3_wants_1 rfl ?_
  refine r_iload_n dX3_wants_2 rfl ?_
  refine r_invV dX3_wants_3 (sp_X3_listens hi s k hx hy hs hk) rfl mo_X3_listens (Or.inl (m_o hi)) rfl (lkA q2078) (lkA q2080) (lkA qs48) rfl (lkA q82) mp_X3_listens (Nat.le_of_ble_eq_true rfl) (Nat.le_of_ble_eq_true rfl) (Nat.le_of_ble_eq_true rfl) (kr_e ?_) kx_e
  refine r_if_ne 11 dX3_wants_6 rfl (fun c6 => ?_) (fun c6 => ?_)
  · refine r_iconst (v := 3) dX3_wants_11 rfl ?_
    refine r_iload dX3_wants_12 rfl ?_
    refine r_iconst (v := 3) dX3_wants_14 rfl ?_
    refine r_idiv dX3_wants_15 (by decide) ?_
    refine r_isub dX3_wants_16 ?_
    first | refine r_aload_n dX3_wants_17 rfl ?_ | refine r_aload_nq dX3_wants_17 rfl ?_ | refine r_aload_nN dX3_wants_17 rfl ?_
    refine r_getfield 3 0 dX3_wants_18 rfl (Nat.le_of_ble_eq_true rfl) (lkA q1890) (Or.inl rfl) (Or.inl (m_o hi)) (by rfl) ?_
    refine r_bipush (v := 53) dX3_wants_21 rfl ?_
    refine r_iconst (v := 4) dX3_wants_23 rfl ?_
    refine r_iload_n dX3_wants_24 rfl ?_
    refine r_imul dX3_wants_25 ?_
    refine r_iadd dX3_wants_26 ?_
    refine r_iconst (v := 3) dX3_wants_27 rfl ?_
    refine r_iadd dX3_wants_28 ?_
    refine r_iaload (53 + 4 * k + 3) dX3_wants_29 (by first | exact Or.inl (m_a0 hi) | exact Or.inl (m_a1 hi) | exact Or.inl (m_a2 hi) | exact Or.inl (m_a3 hi) | exact Or.inl (m_a4 hi) | exact Or.inl (m_a5 hi) | exact Or.inl (m_a6 hi)) (by (try simp only [tI_add, tI_sub, tI_mul, tI_neg, Int32.reduceToInt]); omega) (by omega) rfl ?_
    refine r_iload_n dX3_wants_30 rfl ?_
    refine r_ishr dX3_wants_31 ?_
    refine r_iconst (v := 1) dX3_wants_32 rfl ?_
    refine r_iand dX3_wants_33 ?_
    refine r_if_ne 41 dX3_wants_34 rfl (fun c34 => ?_) (fun c34 => ?_)
    · refine r_iconst (v := 0) dX3_wants_41 rfl ?_
      refine r_iadd dX3_wants_42 ?_
      refine r_istore dX3_wants_43 (Nat.le_of_ble_eq_true rfl) ?_
      refine r_iconst (v := 0) dX3_wants_45 rfl ?_
      refine r_iload dX3_wants_46 rfl ?_
      first | refine r_aload_n dX3_wants_48 rfl ?_ | refine r_aload_nq dX3_wants_48 rfl ?_ | refine r_aload_nN dX3_wants_48 rfl ?_
      refine r_iload_n dX3_wants_49 rfl ?_
      refine r_iconst (v := 3) dX3_wants_50 rfl ?_
      refine r_iload_n dX3_wants_51 rfl ?_
      refine r_iadd dX3_wants_52 ?_
      refine r_invV dX3_wants_53 (sp_X3_of hi s (3 + b) hx (by simp only [tI_add, Int32.reduceToInt]; omega) (by omega)) rfl mo_X3_of (Or.inl (m_o hi)) rfl (lkA q1996) (lkA q1998) (lkA qs38) rfl (lkA q82) mp_X3_of (Nat.le_of_ble_eq_true rfl) (Nat.le_of_ble_eq_true rfl) (Nat.le_of_ble_eq_true rfl) (kr_e ?_) kx_e
      refine r_mmin dX3_wants_56 (lkA q2082) (lkA q290) (lkA q74) (lkA q291) (Nat.le_of_ble_eq_true rfl) (Nat.le_of_ble_eq_true rfl) ?_
      refine r_mmax dX3_wants_59 (lkA q2060) (lkA q248) (lkA q74) (lkA q249) (Nat.le_of_ble_eq_true rfl) (Nat.le_of_ble_eq_true rfl) ?_
      exact r_ireturn dX3_wants_62 rfl (by first | rfl | exact bi_nar) (by refine ⟨?_, rfl⟩; (try simp only [bi_0, Bool.not_eq_false] at c6); rw [gW_t c6, hhb]; first | rw [if_pos c34] | rw [if_neg c34])
    · refine r_iconst (v := 1) dX3_wants_37 rfl ?_
      refine r_goto 42 dX3_wants_38 rfl ?_
      refine r_iadd dX3_wants_42 ?_
      refine r_istore dX3_wants_43 (Nat.le_of_ble_eq_true rfl) ?_
      refine r_iconst (v := 0) dX3_wants_45 rfl ?_
      refine r_iload dX3_wants_46 rfl ?_
      first | refine r_aload_n dX3_wants_48 rfl ?_ | refine r_aload_nq dX3_wants_48 rfl ?_ | refine r_aload_nN dX3_wants_48 rfl ?_
      refine r_iload_n dX3_wants_49 rfl ?_
      refine r_iconst (v := 3) dX3_wants_50 rfl ?_
      refine r_iload_n dX3_wants_51 rfl ?_
      refine r_iadd dX3_wants_52 ?_
      refine r_invV dX3_wants_53 (sp_X3_of hi s (3 + b) hx (by simp only [tI_add, Int32.reduceToInt]; omega) (by omega)) rfl mo_X3_of (Or.inl (m_o hi)) rfl (lkA q1996) (lkA q1998) (lkA qs38) rfl (lkA q82) mp_X3_of (Nat.le_of_ble_eq_true rfl) (Nat.le_of_ble_eq_true rfl) (Nat.le_of_ble_eq_true rfl) (kr_e ?_) kx_e
      refine r_mmin dX3_wants_56 (lkA q2082) (lkA q290) (lkA q74) (lkA q291) (Nat.le_of_ble_eq_true rfl) (Nat.le_of_ble_eq_true rfl) ?_
      refine r_mmax dX3_wants_59 (lkA q2060) (lkA q248) (lkA q74) (lkA q249) (Nat.le_of_ble_eq_true rfl) (Nat.le_of_ble_eq_true rfl) ?_
      exact r_ireturn dX3_wants_62 rfl (by first | rfl | exact bi_nar) (by refine ⟨?_, rfl⟩; (try simp only [bi_0, Bool.not_eq_false] at c6); rw [gW_t c6, hhb]; first | rw [if_pos c34] | rw [if_neg c34])
  · refine r_iconst (v := 0) dX3_wants_9 rfl ?_
    exact r_ireturn dX3_wants_10 rfl (by first | rfl | exact bi_nar) (by refine ⟨?_, rfl⟩; rw [gW_f (fun q => absurd (bi_0.mp c6) (by rw [q]; decide))])

