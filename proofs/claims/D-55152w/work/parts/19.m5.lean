set_option maxRecDepth 100000
theorem res_C {A : Nat → Nat} {S T : Nat → Nat → Int32} {h : HP} {r : OpR} {v : Int32} (hr : r = oC v) (hT : T = S) : eQ (some (.int (mres S r).1)) (ov (mdH A (mres S r).2) h) (.inl (some (.int v))) (ov (mdH A T) h) := by
  subst hr
  subst hT
  exact ⟨rfl, rfl⟩
theorem res_R {A : Nat → Nat} {S T : Nat → Nat → Int32} {h : HP} {r : OpR} {a b : Int32} (hr : r = oR a b) (hT : T = ss (ss S 6 a) 7 b) : eQ (some (.int (mres S r).1)) (ov (mdH A (mres S r).2) h) (.inl (some (.int (-14)))) (ov (mdH A T) h) := by
  subst hr
  subst hT
  exact ⟨rfl, rfl⟩
theorem res_K {A : Nat → Nat} {S T : Nat → Nat → Int32} {h : HP} {r : OpR} {a : Int32} {w : Nat → Int32} (hr : r = oK a w) (hT : T = ss (sa S 0 w) 8 a) : eQ (some (.int (mres S r).1)) (ov (mdH A (mres S r).2) h) (.inl (some (.int 0))) (ov (mdH A T) h) := by
  subst hr
  subst hT
  exact ⟨rfl, rfl⟩
theorem isS_of {D : Int} {w : Nat → Int32} {x : Int32} (hI : Inv D w) (hc : ¬ bi (isS w x) = 0) : isS w x = true ∧ x.toInt = (tn x : Int) ∧ tn x < 4 ∧ (tn x : Int) < (w 2).toInt := by
  have h0 := bi_n0.mp hc
  obtain ⟨h1, h2⟩ := isn_t.mp h0
  have h3 := hI.2.2.1
  simp only [tI_sub, Int32.reduceToInt] at h1 h2
  refine ⟨h0, ?_, ?_, ?_⟩ <;> unfold tn <;> omega
theorem isH_of {x : Int32} (hc : ¬ bi (isH x) = 0) : isH x = true ∧ x.toInt = (tn x : Int) ∧ tn x < 20 := by
  have h0 := bi_n0.mp hc
  obtain ⟨h1, h2⟩ := isn_t.mp h0
  simp only [Int32.reduceToInt] at h1 h2
  refine ⟨h0, ?_, ?_⟩ <;> unfold tn <;> omega
theorem isB_of {x : Int32} (hc : ¬ bi (isB x) = 0) : isB x = true ∧ x.toInt = (tn x : Int) ∧ tn x < 3 := by
  have h0 := bi_n0.mp hc
  obtain ⟨h1, h2⟩ := isn_t.mp h0
  simp only [Int32.reduceToInt] at h1 h2
  refine ⟨h0, ?_, ?_⟩ <;> unfold tn <;> omega
theorem isL_of {D : Int} {w : Nat → Int32} {x : Int32} (hI : Inv D w) (hc : ¬ bi (isL w x) = 0) : isL w x = true ∧ x.toInt = (tn x : Int) ∧ tn x < 40 ∧ (tn x : Int) < (w 3).toInt := by
  have h0 := bi_n0.mp hc
  obtain ⟨h1, h2⟩ := isn_t.mp h0
  have h3 := hI.2.2.2.1
  simp only [tI_sub, Int32.reduceToInt] at h1 h2
  refine ⟨h0, ?_, ?_, ?_⟩ <;> unfold tn <;> omega
theorem x3_0 : (3 : Int32).toInt = 3 := rfl
set_option maxHeartbeats 4000000 in
set_option maxRecDepth 100000 in
theorem sp_X3_takes {G : GG} {A : Nat → Nat} {S : Nat → Nat → Int32} {h : HP} (hi : inj 8 mdom A) {D : Int} (hI : Inv D (S 0)) {x y z : Int32} : Ct G 2 0 M_X3_takes [.ref (A 7), .int x, .int y, .int z] (ov (mdH A S) h) (eQ (some (.int (mres S (oTakes (S 0) x y z)).1)) (ov (mdH A (mres S (oTakes (S 0) x y z)).2) h)) := by
  refine ct_intro my_X3_takes (Nat.le_of_ble_eq_true rfl) ?_
  first | refine r_aload_n dX3_takes_0 rfl ?_ | refine r_aload_nq dX3_takes_0 rfl ?_ | refine r_aload_nN dX3_takes_0 rfl ?_
  refine r_iload_n dX3_takes_1 rfl ?_
  refine r_invV dX3_takes_2 (sp_X3_isSeller hi) rfl mo_X3_isSeller (Or.inl (m_o hi)) rfl (lkA q1992) (lkA q1994) (lkA qs37) rfl (lkA q82) mp_X3_isSeller (Nat.le_of_ble_eq_true rfl) (Nat.le_of_ble_eq_true rfl) (Nat.le_of_ble_eq_true rfl) (kr_e ?_) kx_e
  refine r_if_eq 15 dX3_takes_5 rfl (fun c5 => ?_) (fun c5 => ?_)
  · refine r_bipush (v := (-11)) dX3_takes_15 rfl ?_
    exact r_ireturn dX3_takes_17 rfl (by first | rfl | exact bi_nar) (res_C (by (try simp only [bi_0, Bool.not_eq_false, s10, ss0, ← Int32.not_lt, Classical.not_not] at c5); simp only [oTakes, gTakeR, isTk, ← Int32.not_lt, c5, if_true, if_false, eq_self, Bool.false_eq_true, not_true_eq_false, not_false_eq_true, true_and, and_true, false_and, and_false, decide_true, decide_false, Bool.not_true, Bool.not_false, Bool.true_and, Bool.false_and]; try rfl) rfl)
  · have hS := isS_of hI c5
    refine r_iload_n dX3_takes_8 rfl ?_
    refine r_invS dX3_takes_9 (sp_X3_isBristle ) rfl mo_X3_isBristle (lkA q1977) (lkA q1978) (lkA q82) mp_X3_isBristle (Nat.le_of_ble_eq_true rfl) (Nat.le_of_ble_eq_true rfl) (Nat.le_of_ble_eq_true rfl) (kr_e ?_) kx_e
    refine r_if_ne 18 dX3_takes_12 rfl (fun c12 => ?_) (fun c12 => ?_)
    · have hB := isB_of c12
      refine r_iload_n dX3_takes_18 rfl ?_
      refine r_if_eq 33 dX3_takes_19 rfl (fun c19 => ?_) (fun c19 => ?_)
      · refine r_bipush (v := (-12)) dX3_takes_33 rfl ?_
        exact r_ireturn dX3_takes_35 rfl (by first | rfl | exact bi_nar) (res_C (by (try simp only [bi_0, Bool.not_eq_false, s10, ss0, ← Int32.not_lt, Classical.not_not] at c5); (try simp only [bi_0, Bool.not_eq_false, s10, ss0, ← Int32.not_lt, Classical.not_not] at c12); (try simp only [bi_0, Bool.not_eq_false, s10, ss0, ← Int32.not_lt, Classical.not_not] at c19); simp only [oTakes, gTakeR, isTk, ← Int32.not_lt, c5, c12, c19, if_true, if_false, eq_self, Bool.false_eq_true, not_true_eq_false, not_false_eq_true, true_and, and_true, false_and, and_false, decide_true, decide_false, Bool.not_true, Bool.not_false, Bool.true_and, Bool.false_and]; try rfl) rfl)
      · refine r_iload_n dX3_takes_22 rfl ?_
        refine r_bipush (v := (-12)) dX3_takes_23 rfl ?_
        refine r_bipush (v := 12) dX3_takes_25 rfl ?_
        refine r_invS dX3_takes_27 (sp_X3_in ) rfl mo_X3_in (lkA q1947) (lkA q1948) (lkA q82) mp_X3_in (Nat.le_of_ble_eq_true rfl) (Nat.le_of_ble_eq_true rfl) (Nat.le_of_ble_eq_true rfl) (kr_e ?_) kx_e
        refine r_if_ne 36 dX3_takes_30 rfl (fun c30 => ?_) (fun c30 => ?_)
        · first | refine r_aload_n dX3_takes_36 rfl ?_ | refine r_aload_nq dX3_takes_36 rfl ?_ | refine r_aload_nN dX3_takes_36 rfl ?_
          refine r_iload_n dX3_takes_37 rfl ?_
          refine r_iconst (v := 1) dX3_takes_38 rfl ?_
          refine r_invV dX3_takes_39 (sp_X3_of hi (tn x) 1 hS.2.1 rfl (by have := hS.2.2.1; omega)) rfl mo_X3_of (Or.inl (m_o hi)) rfl (lkA q1996) (lkA q1998) (lkA qs38) rfl (lkA q82) mp_X3_of (Nat.le_of_ble_eq_true rfl) (Nat.le_of_ble_eq_true rfl) (Nat.le_of_ble_eq_true rfl) (kr_e ?_) kx_e
          refine r_if_eq 57 dX3_takes_42 rfl (fun c42 => ?_) (fun c42 => ?_)
          · refine r_bipush (v := 14) dX3_takes_57 rfl ?_
            refine r_iload_n dX3_takes_59 rfl ?_
            refine r_iadd dX3_takes_60 ?_
            refine r_istore dX3_takes_61 (Nat.le_of_ble_eq_true rfl) ?_
            first | refine r_aload_n dX3_takes_63 rfl ?_ | refine r_aload_nq dX3_takes_63 rfl ?_ | refine r_aload_nN dX3_takes_63 rfl ?_
            refine r_iload_n dX3_takes_64 rfl ?_
            refine r_iconst (v := 3) dX3_takes_65 rfl ?_
            refine r_iload_n dX3_takes_66 rfl ?_
            refine r_iadd dX3_takes_67 ?_
            refine r_invV dX3_takes_68 (sp_X3_of hi (tn x) (3 + tn y) hS.2.1 (by have := hB.2.1; have := hB.2.2; simp only [tI_add, Int32.reduceToInt]; omega) (by have := hS.2.2.1; have := hB.2.2; omega)) rfl mo_X3_of (Or.inl (m_o hi)) rfl (lkA q1996) (lkA q1998) (lkA qs38) rfl (lkA q82) mp_X3_of (Nat.le_of_ble_eq_true rfl) (Nat.le_of_ble_eq_true rfl) (Nat.le_of_ble_eq_true rfl) (kr_e ?_) kx_e
            refine r_istore dX3_takes_71 (Nat.le_of_ble_eq_true rfl) ?_
            refine r_iload_n dX3_takes_73 rfl ?_
            refine r_if_le 124 dX3_takes_74 rfl (fun c74 => ?_) (fun c74 => ?_)
            · refine r_iload dX3_takes_124 rfl ?_
              refine r_iload_n dX3_takes_126 rfl ?_
              refine r_ineg dX3_takes_127 ?_
              refine r_icmp_ge 140 dX3_takes_128 rfl (fun c128 => ?_) (fun c128 => ?_)
              · first | refine r_aload_n dX3_takes_140 rfl ?_ | refine r_aload_nq dX3_takes_140 rfl ?_ | refine r_aload_nN dX3_takes_140 rfl ?_
                refine r_getfield 3 0 dX3_takes_141 rfl (Nat.le_of_ble_eq_true rfl) (lkA q1890) (Or.inl rfl) (Or.inl (m_o hi)) (by rfl) ?_
                refine r_iload dX3_takes_144 rfl ?_
                refine r_iaload (14 + tn y) dX3_takes_146 (by first | exact Or.inl (m_a0 hi) | exact Or.inl (m_a1 hi) | exact Or.inl (m_a2 hi) | exact Or.inl (m_a3 hi) | exact Or.inl (m_a4 hi) | exact Or.inl (m_a5 hi) | exact Or.inl (m_a6 hi)) (by have := hB.2.1; have := hB.2.2; simp only [tI_add, tI_sub, tI_mul, tI_neg, Int32.reduceToInt]; omega) (by have := hB.2.2; omega) rfl ?_
                refine r_iload_n dX3_takes_147 rfl ?_
                refine r_isub dX3_takes_148 ?_
                refine r_sipush (v := 200) dX3_takes_149 rfl ?_
                refine r_icmp_le 169 dX3_takes_152 rfl (fun c152 => ?_) (fun c152 => ?_)
                · first | refine r_aload_n dX3_takes_169 rfl ?_ | refine r_aload_nq dX3_takes_169 rfl ?_ | refine r_aload_nN dX3_takes_169 rfl ?_
                  refine r_getfield 3 0 dX3_takes_170 rfl (Nat.le_of_ble_eq_true rfl) (lkA q1890) (Or.inl rfl) (Or.inl (m_o hi)) (by rfl) ?_
                  refine r_iload dX3_takes_173 rfl ?_
                  refine r_dup2 dX3_takes_175 rfl rfl ?_
                  refine r_iaload (14 + tn y) dX3_takes_176 (by first | exact Or.inl (m_a0 hi) | exact Or.inl (m_a1 hi) | exact Or.inl (m_a2 hi) | exact Or.inl (m_a3 hi) | exact Or.inl (m_a4 hi) | exact Or.inl (m_a5 hi) | exact Or.inl (m_a6 hi)) (by have := hB.2.1; have := hB.2.2; simp only [tI_add, tI_sub, tI_mul, tI_neg, Int32.reduceToInt]; omega) (by have := hB.2.2; omega) rfl ?_
                  refine r_iload_n dX3_takes_177 rfl ?_
                  refine r_isub dX3_takes_178 ?_
                  refine r_iastore (14 + tn y) dX3_takes_179 (m_a0 hi) (by have := hB.2.1; have := hB.2.2; simp only [tI_add, tI_sub, tI_mul, tI_neg, Int32.reduceToInt]; omega) (by have := hB.2.2; omega) ?_
                  rw [m_w0 hi]
                  first | refine r_aload_n dX3_takes_180 rfl ?_ | refine r_aload_nq dX3_takes_180 rfl ?_ | refine r_aload_nN dX3_takes_180 rfl ?_
                  refine r_iload_n dX3_takes_181 rfl ?_
                  refine r_iconst (v := 3) dX3_takes_182 rfl ?_
                  refine r_iload_n dX3_takes_183 rfl ?_
                  refine r_iadd dX3_takes_184 ?_
                  refine r_iload_n dX3_takes_185 rfl ?_
                  refine r_invV dX3_takes_186 (sp_X3_adds hi (tn x) (3 + tn y) hS.2.1 (by have := hB.2.1; have := hB.2.2; simp only [tI_add, Int32.reduceToInt]; omega) (by have := hS.2.2.1; have := hB.2.2; omega)) rfl mo_X3_adds (Or.inl (m_o hi)) rfl (lkA q2000) (lkA q2002) (lkA qs39) rfl (lkA q82) mp_X3_adds (Nat.le_of_ble_eq_true rfl) (Nat.le_of_ble_eq_true rfl) (Nat.le_of_ble_eq_true rfl) (kr_e ?_) kx_e
                  first | refine r_aload_n dX3_takes_189 rfl ?_ | refine r_aload_nq dX3_takes_189 rfl ?_ | refine r_aload_nN dX3_takes_189 rfl ?_
                  refine r_iload dX3_takes_190 rfl ?_
                  refine r_iload_n dX3_takes_192 rfl ?_
                  refine r_iadd dX3_takes_193 ?_
                  refine r_invV dX3_takes_194 (sp_X3_does hi) rfl mo_X3_does (Or.inl (m_o hi)) rfl (lkA q2004) (lkA q2006) (lkA qs40) rfl (lkA q82) mp_X3_does (Nat.le_of_ble_eq_true rfl) (Nat.le_of_ble_eq_true rfl) (Nat.le_of_ble_eq_true rfl) (kr_e ?_) kx_e
                  exact r_ireturn dX3_takes_197 rfl (by first | rfl | exact bi_nar) (res_K (by (try simp only [bi_0, Bool.not_eq_false, s10, ss0, ← Int32.not_lt, Classical.not_not] at c5); (try simp only [bi_0, Bool.not_eq_false, s10, ss0, ← Int32.not_lt, Classical.not_not] at c12); (try simp only [bi_0, Bool.not_eq_false, s10, ss0, ← Int32.not_lt, Classical.not_not] at c19); (try simp only [bi_0, Bool.not_eq_false, s10, ss0, ← Int32.not_lt, Classical.not_not] at c30); (try simp only [bi_0, Bool.not_eq_false, s10, ss0, ← Int32.not_lt, Classical.not_not] at c42); (try simp only [bi_0, Bool.not_eq_false, s10, ss0, ← Int32.not_lt, Classical.not_not] at c74); (try simp only [bi_0, Bool.not_eq_false, s10, ss0, ← Int32.not_lt, Classical.not_not] at c128); (try simp only [bi_0, Bool.not_eq_false, s10, ss0, ← Int32.not_lt, Classical.not_not] at c152); simp only [oTakes, gTakeR, isTk, ← Int32.not_lt, c5, c12, c19, c30, c42, c74, c128, c152, if_true, if_false, eq_self, Bool.false_eq_true, not_true_eq_false, not_false_eq_true, true_and, and_true, false_and, and_false, decide_true, decide_false, Bool.not_true, Bool.not_false, Bool.true_and, Bool.false_and]; try rfl) (by simp only [sa_sa, sa_s]; unfold gTake; rw [show upd (S 0) (14 + tn y) (S 0 (14 + tn y) - z) (17 + 9 * tn x + (3 + tn y)) = S 0 (17 + 9 * tn x + (3 + tn y)) from if_neg (by have := hB.2.2; omega)]))
                · first | refine r_aload_n dX3_takes_155 rfl ?_ | refine r_aload_nq dX3_takes_155 rfl ?_ | refine r_aload_nN dX3_takes_155 rfl ?_
                  refine r_bipush (v := 16) dX3_takes_156 rfl ?_
                  first | refine r_aload_n dX3_takes_158 rfl ?_ | refine r_aload_nq dX3_takes_158 rfl ?_ | refine r_aload_nN dX3_takes_158 rfl ?_
                  refine r_getfield 3 0 dX3_takes_159 rfl (Nat.le_of_ble_eq_true rfl) (lkA q1890) (Or.inl rfl) (Or.inl (m_o hi)) (by rfl) ?_
                  refine r_iload dX3_takes_162 rfl ?_
                  refine r_iaload (14 + tn y) dX3_takes_164 (by first | exact Or.inl (m_a0 hi) | exact Or.inl (m_a1 hi) | exact Or.inl (m_a2 hi) | exact Or.inl (m_a3 hi) | exact Or.inl (m_a4 hi) | exact Or.inl (m_a5 hi) | exact Or.inl (m_a6 hi)) (by have := hB.2.1; have := hB.2.2; simp only [tI_add, tI_sub, tI_mul, tI_neg, Int32.reduceToInt]; omega) (by have := hB.2.2; omega) rfl ?_
                  refine r_invV dX3_takes_165 (sp_X3_refuses hi) rfl mo_X3_refuses (Or.inl (m_o hi)) rfl (lkA q1950) (lkA q1952) (lkA qs31) rfl (lkA q82) mp_X3_refuses (Nat.le_of_ble_eq_true rfl) (Nat.le_of_ble_eq_true rfl) (Nat.le_of_ble_eq_true rfl) (kr_e ?_) kx_e
                  exact r_ireturn dX3_takes_168 rfl (by first | rfl | exact bi_nar) (res_R (by (try simp only [bi_0, Bool.not_eq_false, s10, ss0, ← Int32.not_lt, Classical.not_not] at c5); (try simp only [bi_0, Bool.not_eq_false, s10, ss0, ← Int32.not_lt, Classical.not_not] at c12); (try simp only [bi_0, Bool.not_eq_false, s10, ss0, ← Int32.not_lt, Classical.not_not] at c19); (try simp only [bi_0, Bool.not_eq_false, s10, ss0, ← Int32.not_lt, Classical.not_not] at c30); (try simp only [bi_0, Bool.not_eq_false, s10, ss0, ← Int32.not_lt, Classical.not_not] at c42); (try simp only [bi_0, Bool.not_eq_false, s10, ss0, ← Int32.not_lt, Classical.not_not] at c74); (try simp only [bi_0, Bool.not_eq_false, s10, ss0, ← Int32.not_lt, Classical.not_not] at c128); (try simp only [bi_0, Bool.not_eq_false, s10, ss0, ← Int32.not_lt, Classical.not_not] at c152); simp only [oTakes, gTakeR, isTk, ← Int32.not_lt, c5, c12, c19, c30, c42, c74, c128, c152, if_true, if_false, eq_self, Bool.false_eq_true, not_true_eq_false, not_false_eq_true, true_and, and_true, false_and, and_false, decide_true, decide_false, Bool.not_true, Bool.not_false, Bool.true_and, Bool.false_and]; try rfl) rfl)
              · first | refine r_aload_n dX3_takes_131 rfl ?_ | refine r_aload_nq dX3_takes_131 rfl ?_ | refine r_aload_nN dX3_takes_131 rfl ?_
                refine r_bipush (v := 7) dX3_takes_132 rfl ?_
                refine r_iload dX3_takes_134 rfl ?_
                refine r_invV dX3_takes_136 (sp_X3_refuses hi) rfl mo_X3_refuses (Or.inl (m_o hi)) rfl (lkA q1950) (lkA q1952) (lkA qs31) rfl (lkA q82) mp_X3_refuses (Nat.le_of_ble_eq_true rfl) (Nat.le_of_ble_eq_true rfl) (Nat.le_of_ble_eq_true rfl) (kr_e ?_) kx_e
                exact r_ireturn dX3_takes_139 rfl (by first | rfl | exact bi_nar) (res_R (by (try simp only [bi_0, Bool.not_eq_false, s10, ss0, ← Int32.not_lt, Classical.not_not] at c5); (try simp only [bi_0, Bool.not_eq_false, s10, ss0, ← Int32.not_lt, Classical.not_not] at c12); (try simp only [bi_0, Bool.not_eq_false, s10, ss0, ← Int32.not_lt, Classical.not_not] at c19); (try simp only [bi_0, Bool.not_eq_false, s10, ss0, ← Int32.not_lt, Classical.not_not] at c30); (try simp only [bi_0, Bool.not_eq_false, s10, ss0, ← Int32.not_lt, Classical.not_not] at c42); (try simp only [bi_0, Bool.not_eq_false, s10, ss0, ← Int32.not_lt, Classical.not_not] at c74); (try simp only [bi_0, Bool.not_eq_false, s10, ss0, ← Int32.not_lt, Classical.not_not] at c128); simp only [oTakes, gTakeR, isTk, ← Int32.not_lt, c5, c12, c19, c30, c42, c74, c128, if_true, if_false, eq_self, Bool.false_eq_true, not_true_eq_false, not_false_eq_true, true_and, and_true, false_and, and_false, decide_true, decide_false, Bool.not_true, Bool.not_false, Bool.true_and, Bool.false_and]; try rfl) rfl)
            · first | refine r_aload_n dX3_takes_77 rfl ?_ | refine r_aload_nq dX3_takes_77 rfl ?_ | refine r_aload_nN dX3_takes_77 rfl ?_
              refine r_getfield 3 0 dX3_takes_78 rfl (Nat.le_of_ble_eq_true rfl) (lkA q1890) (Or.inl rfl) (Or.inl (m_o hi)) (by rfl) ?_
              refine r_iload dX3_takes_81 rfl ?_
              refine r_iaload (14 + tn y) dX3_takes_83 (by first | exact Or.inl (m_a0 hi) | exact Or.inl (m_a1 hi) | exact Or.inl (m_a2 hi) | exact Or.inl (m_a3 hi) | exact Or.inl (m_a4 hi) | exact Or.inl (m_a5 hi) | exact Or.inl (m_a6 hi)) (by have := hB.2.1; have := hB.2.2; simp only [tI_add, tI_sub, tI_mul, tI_neg, Int32.reduceToInt]; omega) (by have := hB.2.2; omega) rfl ?_
              refine r_iload_n dX3_takes_84 rfl ?_
              refine r_icmp_ge 103 dX3_takes_85 rfl (fun c85 => ?_) (fun c85 => ?_)
              · refine r_iload dX3_takes_103 rfl ?_
                refine r_iload_n dX3_takes_105 rfl ?_
                refine r_iadd dX3_takes_106 ?_
                refine r_bipush (v := 12) dX3_takes_107 rfl ?_
                refine r_icmp_le 169 dX3_takes_109 rfl (fun c109 => ?_) (fun c109 => ?_)
                · first | refine r_aload_n dX3_takes_169 rfl ?_ | refine r_aload_nq dX3_takes_169 rfl ?_ | refine r_aload_nN dX3_takes_169 rfl ?_
                  refine r_getfield 3 0 dX3_takes_170 rfl (Nat.le_of_ble_eq_true rfl) (lkA q1890) (Or.inl rfl) (Or.inl (m_o hi)) (by rfl) ?_
                  refine r_iload dX3_takes_173 rfl ?_
                  refine r_dup2 dX3_takes_175 rfl rfl ?_
                  refine r_iaload (14 + tn y) dX3_takes_176 (by first | exact Or.inl (m_a0 hi) | exact Or.inl (m_a1 hi) | exact Or.inl (m_a2 hi) | exact Or.inl (m_a3 hi) | exact Or.inl (m_a4 hi) | exact Or.inl (m_a5 hi) | exact Or.inl (m_a6 hi)) (by have := hB.2.1; have := hB.2.2; simp only [tI_add, tI_sub, tI_mul, tI_neg, Int32.reduceToInt]; omega) (by have := hB.2.2; omega) rfl ?_
                  refine r_iload_n dX3_takes_177 rfl ?_
                  refine r_isub dX3_takes_178 ?_
                  refine r_iastore (14 + tn y) dX3_takes_179 (m_a0 hi) (by have := hB.2.1; have := hB.2.2; simp only [tI_add, tI_sub, tI_mul, tI_neg, Int32.reduceToInt]; omega) (by have := hB.2.2; omega) ?_
                  rw [m_w0 hi]
                  first | refine r_aload_n dX3_takes_180 rfl ?_ | refine r_aload_nq dX3_takes_180 rfl ?_ | refine r_aload_nN dX3_takes_180 rfl ?_
                  refine r_iload_n dX3_takes_181 rfl ?_
                  refine r_iconst (v := 3) dX3_takes_182 rfl ?_
                  refine r_iload_n dX3_takes_183 rfl ?_
                  refine r_iadd dX3_takes_184 ?_
                  refine r_iload_n dX3_takes_185 rfl ?_
                  refine r_invV dX3_takes_186 (sp_X3_adds hi (tn x) (3 + tn y) hS.2.1 (by have := hB.2.1; have := hB.2.2; simp only [tI_add, Int32.reduceToInt]; omega) (by have := hS.2.2.1; have := hB.2.2; omega)) rfl mo_X3_adds (Or.inl (m_o hi)) rfl (lkA q2000) (lkA q2002) (lkA qs39) rfl (lkA q82) mp_X3_adds (Nat.le_of_ble_eq_true rfl) (Nat.le_of_ble_eq_true rfl) (Nat.le_of_ble_eq_true rfl) (kr_e ?_) kx_e
                  first | refine r_aload_n dX3_takes_189 rfl ?_ | refine r_aload_nq dX3_takes_189 rfl ?_ | refine r_aload_nN dX3_takes_189 rfl ?_
                  refine r_iload dX3_takes_190 rfl ?_
                  refine r_iload_n dX3_takes_192 rfl ?_
                  refine r_iadd dX3_takes_193 ?_
                  refine r_invV dX3_takes_194 (sp_X3_does hi) rfl mo_X3_does (Or.inl (m_o hi)) rfl (lkA q2004) (lkA q2006) (lkA qs40) rfl (lkA q82) mp_X3_does (Nat.le_of_ble_eq_true rfl) (Nat.le_of_ble_eq_true rfl) (Nat.le_of_ble_eq_true rfl) (kr_e ?_) kx_e
                  exact r_ireturn dX3_takes_197 rfl (by first | rfl | exact bi_nar) (res_K (by (try simp only [bi_0, Bool.not_eq_false, s10, ss0, ← Int32.not_lt, Classical.not_not] at c5); (try simp only [bi_0, Bool.not_eq_false, s10, ss0, ← Int32.not_lt, Classical.not_not] at c12); (try simp only [bi_0, Bool.not_eq_false, s10, ss0, ← Int32.not_lt, Classical.not_not] at c19); (try simp only [bi_0, Bool.not_eq_false, s10, ss0, ← Int32.not_lt, Classical.not_not] at c30); (try simp only [bi_0, Bool.not_eq_false, s10, ss0, ← Int32.not_lt, Classical.not_not] at c42); (try simp only [bi_0, Bool.not_eq_false, s10, ss0, ← Int32.not_lt, Classical.not_not] at c74); (try simp only [bi_0, Bool.not_eq_false, s10, ss0, ← Int32.not_lt, Classical.not_not] at c85); (try simp only [bi_0, Bool.not_eq_false, s10, ss0, ← Int32.not_lt, Classical.not_not] at c109); simp only [oTakes, gTakeR, isTk, ← Int32.not_lt, c5, c12, c19, c30, c42, c74, c85, c109, if_true, if_false, eq_self, Bool.false_eq_true, not_true_eq_false, not_false_eq_true, true_and, and_true, false_and, and_false, decide_true, decide_false, Bool.not_true, Bool.not_false, Bool.true_and, Bool.false_and]; try rfl) (by simp only [sa_sa, sa_s]; unfold gTake; rw [show upd (S 0) (14 + tn y) (S 0 (14 + tn y) - z) (17 + 9 * tn x + (3 + tn y)) = S 0 (17 + 9 * tn x + (3 + tn y)) from if_neg (by have := hB.2.2; omega)]))
                · first | refine r_aload_n dX3_takes_112 rfl ?_ | refine r_aload_nq dX3_takes_112 rfl ?_ | refine r_aload_nN dX3_takes_112 rfl ?_
                  refine r_bipush (v := 6) dX3_takes_113 rfl ?_
                  refine r_bipush (v := 12) dX3_takes_115 rfl ?_
                  refine r_iload dX3_takes_117 rfl ?_
                  refine r_isub dX3_takes_119 ?_
                  refine r_invV dX3_takes_120 (sp_X3_refuses hi) rfl mo_X3_refuses (Or.inl (m_o hi)) rfl (lkA q1950) (lkA q1952) (lkA qs31) rfl (lkA q82) mp_X3_refuses (Nat.le_of_ble_eq_true rfl) (Nat.le_of_ble_eq_true rfl) (Nat.le_of_ble_eq_true rfl) (kr_e ?_) kx_e
                  exact r_ireturn dX3_takes_123 rfl (by first | rfl | exact bi_nar) (res_R (by (try simp only [bi_0, Bool.not_eq_false, s10, ss0, ← Int32.not_lt, Classical.not_not] at c5); (try simp only [bi_0, Bool.not_eq_false, s10, ss0, ← Int32.not_lt, Classical.not_not] at c12); (try simp only [bi_0, Bool.not_eq_false, s10, ss0, ← Int32.not_lt, Classical.not_not] at c19); (try simp only [bi_0, Bool.not_eq_false, s10, ss0, ← Int32.not_lt, Classical.not_not] at c30); (try simp only [bi_0, Bool.not_eq_false, s10, ss0, ← Int32.not_lt, Classical.not_not] at c42); (try simp only [bi_0, Bool.not_eq_false, s10, ss0, ← Int32.not_lt, Classical.not_not] at c74); (try simp only [bi_0, Bool.not_eq_false, s10, ss0, ← Int32.not_lt, Classical.not_not] at c85); (try simp only [bi_0, Bool.not_eq_false, s10, ss0, ← Int32.not_lt, Classical.not_not] at c109); simp only [oTakes, gTakeR, isTk, ← Int32.not_lt, c5, c12, c19, c30, c42, c74, c85, c109, if_true, if_false, eq_self, Bool.false_eq_true, not_true_eq_false, not_false_eq_true, true_and, and_true, false_and, and_false, decide_true, decide_false, Bool.not_true, Bool.not_false, Bool.true_and, Bool.false_and]; try rfl) rfl)
              · first | refine r_aload_n dX3_takes_88 rfl ?_ | refine r_aload_nq dX3_takes_88 rfl ?_ | refine r_aload_nN dX3_takes_88 rfl ?_
                refine r_iconst (v := 5) dX3_takes_89 rfl ?_
                refine r_iload_n dX3_takes_90 rfl ?_
                first | refine r_aload_n dX3_takes_91 rfl ?_ | refine r_aload_nq dX3_takes_91 rfl ?_ | refine r_aload_nN dX3_takes_91 rfl ?_
                refine r_getfield 3 0 dX3_takes_92 rfl (Nat.le_of_ble_eq_true rfl) (lkA q1890) (Or.inl rfl) (Or.inl (m_o hi)) (by rfl) ?_
                refine r_iload dX3_takes_95 rfl ?_
                refine r_iaload (14 + tn y) dX3_takes_97 (by first | exact Or.inl (m_a0 hi) | exact Or.inl (m_a1 hi) | exact Or.inl (m_a2 hi) | exact Or.inl (m_a3 hi) | exact Or.inl (m_a4 hi) | exact Or.inl (m_a5 hi) | exact Or.inl (m_a6 hi)) (by have := hB.2.1; have := hB.2.2; simp only [tI_add, tI_sub, tI_mul, tI_neg, Int32.reduceToInt]; omega) (by have := hB.2.2; omega) rfl ?_
                refine r_isub dX3_takes_98 ?_
                refine r_invV dX3_takes_99 (sp_X3_refuses hi) rfl mo_X3_refuses (Or.inl (m_o hi)) rfl (lkA q1950) (lkA q1952) (lkA qs31) rfl (lkA q82) mp_X3_refuses (Nat.le_of_ble_eq_true rfl) (Nat.le_of_ble_eq_true rfl) (Nat.le_of_ble_eq_true rfl) (kr_e ?_) kx_e
                exact r_ireturn dX3_takes_102 rfl (by first | rfl | exact bi_nar) (res_R (by (try simp only [bi_0, Bool.not_eq_false, s10, ss0, ← Int32.not_lt, Classical.not_not] at c5); (try simp only [bi_0, Bool.not_eq_false, s10, ss0, ← Int32.not_lt, Classical.not_not] at c12); (try simp only [bi_0, Bool.not_eq_false, s10, ss0, ← Int32.not_lt, Classical.not_not] at c19); (try simp only [bi_0, Bool.not_eq_false, s10, ss0, ← Int32.not_lt, Classical.not_not] at c30); (try simp only [bi_0, Bool.not_eq_false, s10, ss0, ← Int32.not_lt, Classical.not_not] at c42); (try simp only [bi_0, Bool.not_eq_false, s10, ss0, ← Int32.not_lt, Classical.not_not] at c74); (try simp only [bi_0, Bool.not_eq_false, s10, ss0, ← Int32.not_lt, Classical.not_not] at c85); simp only [oTakes, gTakeR, isTk, ← Int32.not_lt, c5, c12, c19, c30, c42, c74, c85, if_true, if_false, eq_self, Bool.false_eq_true, not_true_eq_false, not_false_eq_true, true_and, and_true, false_and, and_false, decide_true, decide_false, Bool.not_true, Bool.not_false, Bool.true_and, Bool.false_and]; try rfl) rfl)
          · first | refine r_aload_n dX3_takes_45 rfl ?_ | refine r_aload_nq dX3_takes_45 rfl ?_ | refine r_aload_nN dX3_takes_45 rfl ?_
            refine r_iconst (v := 4) dX3_takes_46 rfl ?_
            first | refine r_aload_n dX3_takes_47 rfl ?_ | refine r_aload_nq dX3_takes_47 rfl ?_ | refine r_aload_nN dX3_takes_47 rfl ?_
            refine r_iload_n dX3_takes_48 rfl ?_
            refine r_iconst (v := 1) dX3_takes_49 rfl ?_
            refine r_invV dX3_takes_50 (sp_X3_of hi (tn x) 1 hS.2.1 rfl (by have := hS.2.2.1; omega)) rfl mo_X3_of (Or.inl (m_o hi)) rfl (lkA q1996) (lkA q1998) (lkA qs38) rfl (lkA q82) mp_X3_of (Nat.le_of_ble_eq_true rfl) (Nat.le_of_ble_eq_true rfl) (Nat.le_of_ble_eq_true rfl) (kr_e ?_) kx_e
            refine r_invV dX3_takes_53 (sp_X3_refuses hi) rfl mo_X3_refuses (Or.inl (m_o hi)) rfl (lkA q1950) (lkA q1952) (lkA qs31) rfl (lkA q82) mp_X3_refuses (Nat.le_of_ble_eq_true rfl) (Nat.le_of_ble_eq_true rfl) (Nat.le_of_ble_eq_true rfl) (kr_e ?_) kx_e
            exact r_ireturn dX3_takes_56 rfl (by first | rfl | exact bi_nar) (res_R (by (try simp only [bi_0, Bool.not_eq_false, s10, ss0, ← Int32.not_lt, Classical.not_not] at c5); (try simp only [bi_0, Bool.not_eq_false, s10, ss0, ← Int32.not_lt, Classical.not_not] at c12); (try simp only [bi_0, Bool.not_eq_false, s10, ss0, ← Int32.not_lt, Classical.not_not] at c19); (try simp only [bi_0, Bool.not_eq_false, s10, ss0, ← Int32.not_lt, Classical.not_not] at c30); (try simp only [bi_0, Bool.not_eq_false, s10, ss0, ← Int32.not_lt, Classical.not_not] at c42); simp only [oTakes, gTakeR, isTk, ← Int32.not_lt, c5, c12, c19, c30, c42, if_true, if_false, eq_self, Bool.false_eq_true, not_true_eq_false, not_false_eq_true, true_and, and_true, false_and, and_false, decide_true, decide_false, Bool.not_true, Bool.not_false, Bool.true_and, Bool.false_and]; try rfl) rfl)
        · refine r_bipush (v := (-12)) dX3_takes_33 rfl ?_
          exact r_ireturn dX3_takes_35 rfl (by first | rfl | exact bi_nar) (res_C (by (try simp only [bi_0, Bool.not_eq_false, s10, ss0, ← Int32.not_lt, Classical.not_not] at c5); (try simp only [bi_0, Bool.not_eq_false, s10, ss0, ← Int32.not_lt, Classical.not_not] at c12); (try simp only [bi_0, Bool.not_eq_false, s10, ss0, ← Int32.not_lt, Classical.not_not] at c19); (try simp only [bi_0, Bool.not_eq_false, s10, ss0, ← Int32.not_lt, Classical.not_not] at c30); simp only [oTakes, gTakeR, isTk, ← Int32.not_lt, c5, c12, c19, c30, if_true, if_false, eq_self, Bool.false_eq_true, not_true_eq_false, not_false_eq_true, true_and, and_true, false_and, and_false, decide_true, decide_false, Bool.not_true, Bool.not_false, Bool.true_and, Bool.false_and]; try rfl) rfl)
    · refine r_bipush (v := (-11)) dX3_takes_15 rfl ?_
      exact r_ireturn dX3_takes_17 rfl (by first | rfl | exact bi_nar) (res_C (by (try simp only [bi_0, Bool.not_eq_false, s10, ss0, ← Int32.not_lt, Classical.not_not] at c5); (try simp only [bi_0, Bool.not_eq_false, s10, ss0, ← Int32.not_lt, Classical.not_not] at c12); simp only [oTakes, gTakeR, isTk, ← Int32.not_lt, c5, c12, if_true, if_false, eq_self, Bool.false_eq_true, not_true_eq_false, not_false_eq_true, true_and, and_true, false_and, and_false, decide_true, decide_false, Bool.not_true, Bool.not_false, Bool.true_and, Bool.false_and]; try rfl) rfl)

theorem ss_cg {S T : Nat → Nat → Int32} {v u : Int32} {k : Nat} (h1 : S = T) (h2 : v = u) : ss S k v = ss T k u := by rw [h1, h2]
theorem sa_cg {S : Nat → Nat → Int32} {f g : Nat → Int32} {k : Nat} (h : f = g) : sa S k f = sa S k g := by rw [h]
theorem upd_s {f : Nat → Int32} {k : Nat} {v : Int32} : upd f k v k = v := by simp [upd]
theorem upd_n {f : Nat → Int32} {k j : Nat} {v : Int32} (h : j ≠ k) : upd f k v j = f j := by simp [upd, h]
theorem goes_eq {S : Nat → Nat → Int32} {s : Nat} {y way : Int32} (hs : s < 4) :
    ss (sa S 0 (upd (upd (upd (upd (S 0) (17 + 9 * s + 2) (S 0 (17 + 9 * s + 2) + way)) (17 + 9 * s + 8) (upd (S 0) (17 + 9 * s + 2) (S 0 (17 + 9 * s + 2) + way) (17 + 9 * s + 8) + way)) 1 (upd (upd (S 0) (17 + 9 * s + 2) (S 0 (17 + 9 * s + 2) + way)) (17 + 9 * s + 8) (upd (S 0) (17 + 9 * s + 2) (S 0 (17 + 9 * s + 2) + way) (17 + 9 * s + 8) + way) 1 + way)) (17 + 9 * s + 1) y)) 8 (gSl (upd (upd (upd (upd (S 0) (17 + 9 * s + 2) (S 0 (17 + 9 * s + 2) + way)) (17 + 9 * s + 8) (upd (S 0) (17 + 9 * s + 2) (S 0 (17 + 9 * s + 2) + way) (17 + 9 * s + 8) + way)) 1 (upd (upd (S 0) (17 + 9 * s + 2) (S 0 (17 + 9 * s + 2) + way)) (17 + 9 * s + 8) (upd (S 0) (17 + 9 * s + 2) (S 0 (17 + 9 * s + 2) + way) (17 + 9 * s + 8) + way) 1 + way)) (17 + 9 * s + 1) y) s 2)
      = ss (sa S 0 (gGo (S 0) s y way)) 8 (gSl (S 0) s 2 + way) := by
  have e1 : upd (S 0) (17 + 9 * s + 2) (S 0 (17 + 9 * s + 2) + way) (17 + 9 * s + 8) = S 0 (17 + 9 * s + 8) := upd_n (by omega)
  rw [e1]
  have e2 : upd (upd (S 0) (17 + 9 * s + 2) (S 0 (17 + 9 * s + 2) + way)) (17 + 9 * s + 8) (S 0 (17 + 9 * s + 8) + way) 1 = S 0 1 := by rw [upd_n (by omega), upd_n (by omega)]
  rw [e2]
  refine ss_cg rfl ?_
  unfold gSl
  rw [upd_n (by omega), upd_n (by omega), upd_n (by omega), upd_s]
set_option maxHeartbeats 4000000 in
set_option maxRecDepth 100000 in
theorem sp_X3_goes {G : GG} {A : Nat → Nat} {S : Nat → Nat → Int32} {h : HP} (hi : inj 8 mdom A) {D : Int} (hI : Inv D (S 0)) {x y : Int32} : Ct G 2 0 M_X3_goes [.ref (A 7), .int x, .int y] (ov (mdH A S) h) (eQ (some (.int (mres S (oGoes (S 0) x y)).1)) (ov (mdH A (mres S (oGoes (S 0) x y)).2) h)) := by
  refine ct_intro my_X3_goes (Nat.le_of_ble_eq_true rfl) ?_
  first | refine r_aload_n dX3_goes_0 rfl ?_ | refine r_aload_nq dX3_goes_0 rfl ?_ | refine r_aload_nN dX3_goes_0 rfl ?_
  refine r_iload_n dX3_goes_1 rfl ?_
  refine r_invV dX3_goes_2 (sp_X3_isSeller hi) rfl mo_X3_isSeller (Or.inl (m_o hi)) rfl (lkA q1992) (lkA q1994) (lkA qs37) rfl (lkA q82) mp_X3_isSeller (Nat.le_of_ble_eq_true rfl) (Nat.le_of_ble_eq_true rfl) (Nat.le_of_ble_eq_true rfl) (kr_e ?_) kx_e
  refine r_if_eq 15 dX3_goes_5 rfl (fun c5 => ?_) (fun c5 => ?_)
  · refine r_bipush (v := (-11)) dX3_goes_15 rfl ?_
    exact r_ireturn dX3_goes_17 rfl (by first | rfl | exact bi_nar) (res_C (by (try simp only [bi_0, Bool.not_eq_false, s10, ss0, ← Int32.not_lt, Classical.not_not] at c5); simp only [oGoes, gGoR, ← Int32.not_lt, c5, if_true, if_false, eq_self, Bool.false_eq_true, not_true_eq_false, not_false_eq_true, true_and, and_true, false_and, and_false, decide_true, decide_false, Bool.not_true, Bool.not_false, Bool.true_and, Bool.false_and]; try rfl) rfl)
  · have hS := isS_of hI c5
    refine r_iload_n dX3_goes_8 rfl ?_
    refine r_invS dX3_goes_9 (sp_X3_isHouse ) rfl mo_X3_isHouse (lkA q1962) (lkA q1963) (lkA q82) mp_X3_isHouse (Nat.le_of_ble_eq_true rfl) (Nat.le_of_ble_eq_true rfl) (Nat.le_of_ble_eq_true rfl) (kr_e ?_) kx_e
    refine r_if_ne 18 dX3_goes_12 rfl (fun c12 => ?_) (fun c12 => ?_)
    · have hS := hS
      have hH := isH_of c12
      refine r_iload_n dX3_goes_18 rfl ?_
      first | refine r_aload_n dX3_goes_19 rfl ?_ | refine r_aload_nq dX3_goes_19 rfl ?_ | refine r_aload_nN dX3_goes_19 rfl ?_
      refine r_iload_n dX3_goes_20 rfl ?_
      refine r_iconst (v := 1) dX3_goes_21 rfl ?_
      refine r_invV dX3_goes_22 (sp_X3_of hi (tn x) 1 hS.2.1 rfl (by have := hS.2.2.1; omega)) rfl mo_X3_of (Or.inl (m_o hi)) rfl (lkA q1996) (lkA q1998) (lkA qs38) rfl (lkA q82) mp_X3_of (Nat.le_of_ble_eq_true rfl) (Nat.le_of_ble_eq_true rfl) (Nat.le_of_ble_eq_true rfl) (kr_e ?_) kx_e
      refine r_isub dX3_goes_25 ?_
      refine r_mabs dX3_goes_26 (lkA q2039) (lkA q1267) (lkA q74) (lkA q1268) (Nat.le_of_ble_eq_true rfl) (Nat.le_of_ble_eq_true rfl) ?_
      refine r_istore_n dX3_goes_29 (Nat.le_of_ble_eq_true rfl) ?_
      first | refine r_aload_n dX3_goes_30 rfl ?_ | refine r_aload_nq dX3_goes_30 rfl ?_ | refine r_aload_nN dX3_goes_30 rfl ?_
      refine r_iload_n dX3_goes_31 rfl ?_
      refine r_iconst (v := 2) dX3_goes_32 rfl ?_
      refine r_invV dX3_goes_33 (sp_X3_of hi (tn x) 2 hS.2.1 rfl (by have := hS.2.2.1; omega)) rfl mo_X3_of (Or.inl (m_o hi)) rfl (lkA q1996) (lkA q1998) (lkA qs38) rfl (lkA q82) mp_X3_of (Nat.le_of_ble_eq_true rfl) (Nat.le_of_ble_eq_true rfl) (Nat.le_of_ble_eq_true rfl) (kr_e ?_) kx_e
      refine r_iload_n dX3_goes_36 rfl ?_
      refine r_iadd dX3_goes_37 ?_
      refine r_bipush (v := 100) dX3_goes_38 rfl ?_
      refine r_icmp_le 60 dX3_goes_40 rfl (fun c40 => ?_) (fun c40 => ?_)
      · refine r_iload_n dX3_goes_60 rfl ?_
        first | refine r_aload_n dX3_goes_61 rfl ?_ | refine r_aload_nq dX3_goes_61 rfl ?_ | refine r_aload_nN dX3_goes_61 rfl ?_
        refine r_invV dX3_goes_62 (sp_X3_left hi) rfl mo_X3_left (Or.inl (m_o hi)) rfl (lkA q2040) (lkA q2042) (lkA qs44) rfl (lkA q82) mp_X3_left (Nat.le_of_ble_eq_true rfl) (Nat.le_of_ble_eq_true rfl) (Nat.le_of_ble_eq_true rfl) (kr_e ?_) kx_e
        refine r_icmp_le 78 dX3_goes_65 rfl (fun c65 => ?_) (fun c65 => ?_)
        · first | refine r_aload_n dX3_goes_78 rfl ?_ | refine r_aload_nq dX3_goes_78 rfl ?_ | refine r_aload_nN dX3_goes_78 rfl ?_
          refine r_iload_n dX3_goes_79 rfl ?_
          refine r_iconst (v := 2) dX3_goes_80 rfl ?_
          refine r_iload_n dX3_goes_81 rfl ?_
          refine r_invV dX3_goes_82 (sp_X3_adds hi (tn x) 2 hS.2.1 rfl (by have := hS.2.2.1; omega)) rfl mo_X3_adds (Or.inl (m_o hi)) rfl (lkA q2000) (lkA q2002) (lkA qs39) rfl (lkA q82) mp_X3_adds (Nat.le_of_ble_eq_true rfl) (Nat.le_of_ble_eq_true rfl) (Nat.le_of_ble_eq_true rfl) (kr_e ?_) kx_e
          first | refine r_aload_n dX3_goes_85 rfl ?_ | refine r_aload_nq dX3_goes_85 rfl ?_ | refine r_aload_nN dX3_goes_85 rfl ?_
          refine r_iload_n dX3_goes_86 rfl ?_
          refine r_bipush (v := 8) dX3_goes_87 rfl ?_
          refine r_iload_n dX3_goes_89 rfl ?_
          refine r_invV dX3_goes_90 (sp_X3_adds hi (tn x) 8 hS.2.1 rfl (by have := hS.2.2.1; omega)) rfl mo_X3_adds (Or.inl (m_o hi)) rfl (lkA q2000) (lkA q2002) (lkA qs39) rfl (lkA q82) mp_X3_adds (Nat.le_of_ble_eq_true rfl) (Nat.le_of_ble_eq_true rfl) (Nat.le_of_ble_eq_true rfl) (kr_e ?_) kx_e
          first | refine r_aload_n dX3_goes_93 rfl ?_ | refine r_aload_nq dX3_goes_93 rfl ?_ | refine r_aload_nN dX3_goes_93 rfl ?_
          refine r_getfield 3 0 dX3_goes_94 rfl (Nat.le_of_ble_eq_true rfl) (lkA q1890) (Or.inl rfl) (Or.inl (m_o hi)) (by rfl) ?_
          refine r_iconst (v := 1) dX3_goes_97 rfl ?_
          refine r_dup2 dX3_goes_98 rfl rfl ?_
          refine r_iaload (1) dX3_goes_99 (by first | exact Or.inl (m_a0 hi) | exact Or.inl (m_a1 hi) | exact Or.inl (m_a2 hi) | exact Or.inl (m_a3 hi) | exact Or.inl (m_a4 hi) | exact Or.inl (m_a5 hi) | exact Or.inl (m_a6 hi)) rfl (Nat.le_of_ble_eq_true rfl) rfl ?_
          refine r_iload_n dX3_goes_100 rfl ?_
          refine r_iadd dX3_goes_101 ?_
          refine r_iastore (1) dX3_goes_102 (m_a0 hi) rfl (Nat.le_of_ble_eq_true rfl) ?_
          rw [m_w0 hi]
          first | refine r_aload_n dX3_goes_103 rfl ?_ | refine r_aload_nq dX3_goes_103 rfl ?_ | refine r_aload_nN dX3_goes_103 rfl ?_
          refine r_getfield 3 0 dX3_goes_104 rfl (Nat.le_of_ble_eq_true rfl) (lkA q1890) (Or.inl rfl) (Or.inl (m_o hi)) (by rfl) ?_
          refine r_bipush (v := 17) dX3_goes_107 rfl ?_
          refine r_bipush (v := 9) dX3_goes_109 rfl ?_
          refine r_iload_n dX3_goes_111 rfl ?_
          refine r_imul dX3_goes_112 ?_
          refine r_iadd dX3_goes_113 ?_
          refine r_iconst (v := 1) dX3_goes_114 rfl ?_
          refine r_iadd dX3_goes_115 ?_
          refine r_iload_n dX3_goes_116 rfl ?_
          refine r_iastore (17 + 9 * tn x + 1) dX3_goes_117 (m_a0 hi) (by have := hS.2.1; have := hS.2.2.1; simp only [tI_add, tI_sub, tI_mul, tI_neg, Int32.reduceToInt]; omega) (by have := hS.2.2.1; omega) ?_
          rw [m_w0 hi]
          first | refine r_aload_n dX3_goes_118 rfl ?_ | refine r_aload_nq dX3_goes_118 rfl ?_ | refine r_aload_nN dX3_goes_118 rfl ?_
          first | refine r_aload_n dX3_goes_119 rfl ?_ | refine r_aload_nq dX3_goes_119 rfl ?_ | refine r_aload_nN dX3_goes_119 rfl ?_
          refine r_iload_n dX3_goes_120 rfl ?_
          refine r_iconst (v := 2) dX3_goes_121 rfl ?_
          refine r_invV dX3_goes_122 (sp_X3_of hi (tn x) 2 hS.2.1 rfl (by have := hS.2.2.1; omega)) rfl mo_X3_of (Or.inl (m_o hi)) rfl (lkA q1996) (lkA q1998) (lkA qs38) rfl (lkA q82) mp_X3_of (Nat.le_of_ble_eq_true rfl) (Nat.le_of_ble_eq_true rfl) (Nat.le_of_ble_eq_true rfl) (kr_e ?_) kx_e
          refine r_invV dX3_goes_125 (sp_X3_does hi) rfl mo_X3_does (Or.inl (m_o hi)) rfl (lkA q2004) (lkA q2006) (lkA qs40) rfl (lkA q82) mp_X3_does (Nat.le_of_ble_eq_true rfl) (Nat.le_of_ble_eq_true rfl) (Nat.le_of_ble_eq_true rfl) (kr_e ?_) kx_e
          exact r_ireturn dX3_goes_128 rfl (by first | rfl | exact bi_nar) (res_K (by (try simp only [bi_0, Bool.not_eq_false, s10, ss0, ← Int32.not_lt, Classical.not_not] at c5); (try simp only [bi_0, Bool.not_eq_false, s10, ss0, ← Int32.not_lt, Classical.not_not] at c12); (try simp only [bi_0, Bool.not_eq_false, s10, ss0, ← Int32.not_lt, Classical.not_not] at c40); (try simp only [bi_0, Bool.not_eq_false, s10, ss0, ← Int32.not_lt, Classical.not_not] at c65); simp only [oGoes, gGoR, ← Int32.not_lt, c5, c12, c40, c65, if_true, if_false, eq_self, Bool.false_eq_true, not_true_eq_false, not_false_eq_true, true_and, and_true, false_and, and_false, decide_true, decide_false, Bool.not_true, Bool.not_false, Bool.true_and, Bool.false_and]; try rfl) (by simp only [sa_sa, sa_s]; exact goes_eq hS.2.2.1))
        · first | refine r_aload_n dX3_goes_68 rfl ?_ | refine r_aload_nq dX3_goes_68 rfl ?_ | refine r_aload_nN dX3_goes_68 rfl ?_
          refine r_iconst (v := 3) dX3_goes_69 rfl ?_
          first | refine r_aload_n dX3_goes_70 rfl ?_ | refine r_aload_nq dX3_goes_70 rfl ?_ | refine r_aload_nN dX3_goes_70 rfl ?_
          refine r_invV dX3_goes_71 (sp_X3_left hi) rfl mo_X3_left (Or.inl (m_o hi)) rfl (lkA q2040) (lkA q2042) (lkA qs44) rfl (lkA q82) mp_X3_left (Nat.le_of_ble_eq_true rfl) (Nat.le_of_ble_eq_true rfl) (Nat.le_of_ble_eq_true rfl) (kr_e ?_) kx_e
          refine r_invV dX3_goes_74 (sp_X3_refuses hi) rfl mo_X3_refuses (Or.inl (m_o hi)) rfl (lkA q1950) (lkA q1952) (lkA qs31) rfl (lkA q82) mp_X3_refuses (Nat.le_of_ble_eq_true rfl) (Nat.le_of_ble_eq_true rfl) (Nat.le_of_ble_eq_true rfl) (kr_e ?_) kx_e
          exact r_ireturn dX3_goes_77 rfl (by first | rfl | exact bi_nar) (res_R (by (try simp only [bi_0, Bool.not_eq_false, s10, ss0, ← Int32.not_lt, Classical.not_not] at c5); (try simp only [bi_0, Bool.not_eq_false, s10, ss0, ← Int32.not_lt, Classical.not_not] at c12); (try simp only [bi_0, Bool.not_eq_false, s10, ss0, ← Int32.not_lt, Classical.not_not] at c40); (try simp only [bi_0, Bool.not_eq_false, s10, ss0, ← Int32.not_lt, Classical.not_not] at c65); simp only [oGoes, gGoR, ← Int32.not_lt, c5, c12, c40, c65, if_true, if_false, eq_self, Bool.false_eq_true, not_true_eq_false, not_false_eq_true, true_and, and_true, false_and, and_false, decide_true, decide_false, Bool.not_true, Bool.not_false, Bool.true_and, Bool.false_and]; try rfl) rfl)
      · first | refine r_aload_n dX3_goes_43 rfl ?_ | refine r_aload_nq dX3_goes_43 rfl ?_ | refine r_aload_nN dX3_goes_43 rfl ?_
        refine r_iconst (v := 2) dX3_goes_44 rfl ?_
        first | refine r_aload_n dX3_goes_45 rfl ?_ | refine r_aload_nq dX3_goes_45 rfl ?_ | refine r_aload_nN dX3_goes_45 rfl ?_
        refine r_iload_n dX3_goes_46 rfl ?_
        refine r_iconst (v := 2) dX3_goes_47 rfl ?_
        refine r_invV dX3_goes_48 (sp_X3_of hi (tn x) 2 hS.2.1 rfl (by have := hS.2.2.1; omega)) rfl mo_X3_of (Or.inl (m_o hi)) rfl (lkA q1996) (lkA q1998) (lkA qs38) rfl (lkA q82) mp_X3_of (Nat.le_of_ble_eq_true rfl) (Nat.le_of_ble_eq_true rfl) (Nat.le_of_ble_eq_true rfl) (kr_e ?_) kx_e
        refine r_iload_n dX3_goes_51 rfl ?_
        refine r_iadd dX3_goes_52 ?_
        refine r_bipush (v := 100) dX3_goes_53 rfl ?_
        refine r_isub dX3_goes_55 ?_
        refine r_invV dX3_goes_56 (sp_X3_refuses hi) rfl mo_X3_refuses (Or.inl (m_o hi)) rfl (lkA q1950) (lkA q1952) (lkA qs31) rfl (lkA q82) mp_X3_refuses (Nat.le_of_ble_eq_true rfl) (Nat.le_of_ble_eq_true rfl) (Nat.le_of_ble_eq_true rfl) (kr_e ?_) kx_e
        exact r_ireturn dX3_goes_59 rfl (by first | rfl | exact bi_nar) (res_R (by (try simp only [bi_0, Bool.not_eq_false, s10, ss0, ← Int32.not_lt, Classical.not_not] at c5); (try simp only [bi_0, Bool.not_eq_false, s10, ss0, ← Int32.not_lt, Classical.not_not] at c12); (try simp only [bi_0, Bool.not_eq_false, s10, ss0, ← Int32.not_lt, Classical.not_not] at c40); simp only [oGoes, gGoR, ← Int32.not_lt, c5, c12, c40, if_true, if_false, eq_self, Bool.false_eq_true, not_true_eq_false, not_false_eq_true, true_and, and_true, false_and, and_false, decide_true, decide_false, Bool.not_true, Bool.not_false, Bool.true_and, Bool.false_and]; try rfl) rfl)
    · refine r_bipush (v := (-11)) dX3_goes_15 rfl ?_
      exact r_ireturn dX3_goes_17 rfl (by first | rfl | exact bi_nar) (res_C (by (try simp only [bi_0, Bool.not_eq_false, s10, ss0, ← Int32.not_lt, Classical.not_not] at c5); (try simp only [bi_0, Bool.not_eq_false, s10, ss0, ← Int32.not_lt, Classical.not_not] at c12); simp only [oGoes, gGoR, ← Int32.not_lt, c5, c12, if_true, if_false, eq_self, Bool.false_eq_true, not_true_eq_false, not_false_eq_true, true_and, and_true, false_and, and_false, decide_true, decide_false, Bool.not_true, Bool.not_false, Bool.true_and, Bool.false_and]; try rfl) rfl)

set_option maxHeartbeats 4000000 in
set_option maxRecDepth 100000 in
theorem renews_2 {G : GG} {A : Nat → Nat} {S : Nat → Nat → Int32} {h : HP} (hi : inj 8 mdom A) {x : Int32} {r : OpR} (hx : x.toInt = (tn x : Int)) (hx4 : tn x < 4) (hr1 : S 0 4 < 6 → r = oR 8 (6 - S 0 4)) (hr2 : ¬ S 0 4 < 6 → r = oK (gSl (S 0) (tn x) 2) (upd (gSpend (S 0) 6) (17 + 9 * tn x + 2) 0)) : V G 2 M_X3_renews 38 [(0, .ref (A 7)), (1, .int x)] [.int (if S 0 4 < 6 then -14 else 0)] (ov (mdH A (if S 0 4 < 6 then ss (ss S 6 8) 7 (6 - S 0 4) else sa S 0 (gSpend (S 0) 6))) h) 0 (eQ (some (.int (mres S r).1)) (ov (mdH A (mres S r).2) h)) := by
  by_cases hcost : S 0 4 < 6
  · rw [if_pos hcost, if_pos hcost]
    refine r_if_ge 44 dX3_renews_38 rfl (fun c38 => absurd c38 (by decide)) (fun c38 => ?_)
    refine r_bipush (v := (-14)) dX3_renews_41 rfl ?_
    exact r_ireturn dX3_renews_43 rfl (by first | rfl | exact bi_nar) (res_R (hr1 hcost) rfl)
  · rw [if_neg hcost, if_neg hcost]
    refine r_if_ge 44 dX3_renews_38 rfl (fun c38 => ?_) (fun c38 => absurd c38 (by decide))
    first | refine r_aload_n dX3_renews_44 rfl ?_ | refine r_aload_nq dX3_renews_44 rfl ?_ | refine r_aload_nN dX3_renews_44 rfl ?_
    refine r_iload_n dX3_renews_45 rfl ?_
    refine r_iconst (v := 2) dX3_renews_46 rfl ?_
    refine r_invV dX3_renews_47 (sp_X3_of hi (tn x) 2 hx rfl (by omega)) rfl mo_X3_of (Or.inl (m_o hi)) rfl (lkA q1996) (lkA q1998) (lkA qs38) rfl (lkA q82) mp_X3_of (Nat.le_of_ble_eq_true rfl) (Nat.le_of_ble_eq_true rfl) (Nat.le_of_ble_eq_true rfl) (kr_e ?_) kx_e
    refine r_istore_n dX3_renews_50 (Nat.le_of_ble_eq_true rfl) ?_
    first | refine r_aload_n dX3_renews_51 rfl ?_ | refine r_aload_nq dX3_renews_51 rfl ?_ | refine r_aload_nN dX3_renews_51 rfl ?_
    refine r_iload_n dX3_renews_52 rfl ?_
    refine r_iconst (v := 2) dX3_renews_53 rfl ?_
    refine r_iload_n dX3_renews_54 rfl ?_
    refine r_ineg dX3_renews_55 ?_
    refine r_invV dX3_renews_56 (sp_X3_adds hi (tn x) 2 hx rfl (by omega)) rfl mo_X3_adds (Or.inl (m_o hi)) rfl (lkA q2000) (lkA q2002) (lkA qs39) rfl (lkA q82) mp_X3_adds (Nat.le_of_ble_eq_true rfl) (Nat.le_of_ble_eq_true rfl) (Nat.le_of_ble_eq_true rfl) (kr_e ?_) kx_e
    first | refine r_aload_n dX3_renews_59 rfl ?_ | refine r_aload_nq dX3_renews_59 rfl ?_ | refine r_aload_nN dX3_renews_59 rfl ?_
    refine r_iload_n dX3_renews_60 rfl ?_
    refine r_invV dX3_renews_61 (sp_X3_does hi) rfl mo_X3_does (Or.inl (m_o hi)) rfl (lkA q2004) (lkA q2006) (lkA qs40) rfl (lkA q82) mp_X3_does (Nat.le_of_ble_eq_true rfl) (Nat.le_of_ble_eq_true rfl) (Nat.le_of_ble_eq_true rfl) (kr_e ?_) kx_e
    exact r_ireturn dX3_renews_64 rfl (by first | rfl | exact bi_nar) (res_K (hr2 hcost) (by simp only [sa_sa, sa_s]; exact ss_cg (sa_cg (by rw [show gSpend (S 0) 6 (17 + 9 * tn x + 2) = S 0 (17 + 9 * tn x + 2) from (by unfold gSpend; rw [upd_n (by omega), upd_n (by omega)]), show gSl (gSpend (S 0) 6) (tn x) 2 = S 0 (17 + 9 * tn x + 2) from (by unfold gSl gSpend; rw [upd_n (by omega), upd_n (by omega)]), show S 0 (17 + 9 * tn x + 2) + -S 0 (17 + 9 * tn x + 2) = 0 from (by rw [← Int32.sub_eq_add_neg, Int32.sub_self])])) (by unfold gSl gSpend; rw [upd_n (by omega), upd_n (by omega)])))

set_option maxHeartbeats 4000000 in
set_option maxRecDepth 100000 in
theorem sp_X3_renews {G : GG} {A : Nat → Nat} {S : Nat → Nat → Int32} {h : HP} (hi : inj 8 mdom A) {D : Int} (hI : Inv D (S 0)) {x : Int32} : Ct G 2 0 M_X3_renews [.ref (A 7), .int x] (ov (mdH A S) h) (eQ (some (.int (mres S (oRenews (S 0) x)).1)) (ov (mdH A (mres S (oRenews (S 0) x)).2) h)) := by
  refine ct_intro my_X3_renews (Nat.le_of_ble_eq_true rfl) ?_
  first | refine r_aload_n dX3_renews_0 rfl ?_ | refine r_aload_nq dX3_renews_0 rfl ?_ | refine r_aload_nN dX3_renews_0 rfl ?_
  refine r_iload_n dX3_renews_1 rfl ?_
  refine r_invV dX3_renews_2 (sp_X3_isSeller hi) rfl mo_X3_isSeller (Or.inl (m_o hi)) rfl (lkA q1992) (lkA q1994) (lkA qs37) rfl (lkA q82) mp_X3_isSeller (Nat.le_of_ble_eq_true rfl) (Nat.le_of_ble_eq_true rfl) (Nat.le_of_ble_eq_true rfl) (kr_e ?_) kx_e
  refine r_if_ne 11 dX3_renews_5 rfl (fun c5 => ?_) (fun c5 => ?_)
  · have hS := isS_of hI c5
    first | refine r_aload_n dX3_renews_11 rfl ?_ | refine r_aload_nq dX3_renews_11 rfl ?_ | refine r_aload_nN dX3_renews_11 rfl ?_
    refine r_iload_n dX3_renews_12 rfl ?_
    refine r_iconst (v := 1) dX3_renews_13 rfl ?_
    refine r_invV dX3_renews_14 (sp_X3_of hi (tn x) 1 hS.2.1 rfl (by have := hS.2.2.1; omega)) rfl mo_X3_of (Or.inl (m_o hi)) rfl (lkA q1996) (lkA q1998) (lkA qs38) rfl (lkA q82) mp_X3_of (Nat.le_of_ble_eq_true rfl) (Nat.le_of_ble_eq_true rfl) (Nat.le_of_ble_eq_true rfl) (kr_e ?_) kx_e
    refine r_if_eq 32 dX3_renews_17 rfl (fun c17 => ?_) (fun c17 => ?_)
    · first | refine r_aload_n dX3_renews_32 rfl ?_ | refine r_aload_nq dX3_renews_32 rfl ?_ | refine r_aload_nN dX3_renews_32 rfl ?_
      refine r_bipush (v := 6) dX3_renews_33 rfl ?_
      refine r_invV dX3_renews_35 (sp_X3_spends hi) rfl mo_X3_spends (Or.inl (m_o hi)) rfl (lkA q1980) (lkA q1982) (lkA qs35) rfl (lkA q82) mp_X3_spends (Nat.le_of_ble_eq_true rfl) (Nat.le_of_ble_eq_true rfl) (Nat.le_of_ble_eq_true rfl) (kr_e ?_) kx_e
      exact renews_2 hi hS.2.1 hS.2.2.1 (fun hq => (by (try simp only [bi_0, Bool.not_eq_false, s10, ss0, ← Int32.not_lt, Classical.not_not] at c5); (try simp only [bi_0, Bool.not_eq_false, s10, ss0, ← Int32.not_lt, Classical.not_not] at c17); simp only [oRenews, gRenR, hq, ← Int32.not_lt, c5, c17, if_true, if_false, eq_self, Bool.false_eq_true, not_true_eq_false, not_false_eq_true, true_and, and_true, false_and, and_false, decide_true, decide_false, Bool.not_true, Bool.not_false, Bool.true_and, Bool.false_and]; try rfl)) (fun hq => (by (try simp only [bi_0, Bool.not_eq_false, s10, ss0, ← Int32.not_lt, Classical.not_not] at c5); (try simp only [bi_0, Bool.not_eq_false, s10, ss0, ← Int32.not_lt, Classical.not_not] at c17); simp only [oRenews, gRenR, hq, ← Int32.not_lt, c5, c17, if_true, if_false, eq_self, Bool.false_eq_true, not_true_eq_false, not_false_eq_true, true_and, and_true, false_and, and_false, decide_true, decide_false, Bool.not_true, Bool.not_false, Bool.true_and, Bool.false_and]; try rfl))
    · first | refine r_aload_n dX3_renews_20 rfl ?_ | refine r_aload_nq dX3_renews_20 rfl ?_ | refine r_aload_nN dX3_renews_20 rfl ?_
      refine r_iconst (v := 4) dX3_renews_21 rfl ?_
      first | refine r_aload_n dX3_renews_22 rfl ?_ | refine r_aload_nq dX3_renews_22 rfl ?_ | refine r_aload_nN dX3_renews_22 rfl ?_
      refine r_iload_n dX3_renews_23 rfl ?_
      refine r_iconst (v := 1) dX3_renews_24 rfl ?_
      refine r_invV dX3_renews_25 (sp_X3_of hi (tn x) 1 hS.2.1 rfl (by have := hS.2.2.1; omega)) rfl mo_X3_of (Or.inl (m_o hi)) rfl (lkA q1996) (lkA q1998) (lkA qs38) rfl (lkA q82) mp_X3_of (Nat.le_of_ble_eq_true rfl) (Nat.le_of_ble_eq_true rfl) (Nat.le_of_ble_eq_true rfl) (kr_e ?_) kx_e
      refine r_invV dX3_renews_28 (sp_X3_refuses hi) rfl mo_X3_refuses (Or.inl (m_o hi)) rfl (lkA q1950) (lkA q1952) (lkA qs31) rfl (lkA q82) mp_X3_refuses (Nat.le_of_ble_eq_true rfl) (Nat.le_of_ble_eq_true rfl) (Nat.le_of_ble_eq_true rfl) (kr_e ?_) kx_e
      exact r_ireturn dX3_renews_31 rfl (by first | rfl | exact bi_nar) (res_R (by (try simp only [bi_0, Bool.not_eq_false, s10, ss0, ← Int32.not_lt, Classical.not_not] at c5); (try simp only [bi_0, Bool.not_eq_false, s10, ss0, ← Int32.not_lt, Classical.not_not] at c17); simp only [oRenews, gRenR, ← Int32.not_lt, c5, c17, if_true, if_false, eq_self, Bool.false_eq_true, not_true_eq_false, not_false_eq_true, true_and, and_true, false_and, and_false, decide_true, decide_false, Bool.not_true, Bool.not_false, Bool.true_and, Bool.false_and]; try rfl) rfl)
  · refine r_bipush (v := (-11)) dX3_renews_8 rfl ?_
    exact r_ireturn dX3_renews_10 rfl (by first | rfl | exact bi_nar) (res_C (by (try simp only [bi_0, Bool.not_eq_false, s10, ss0, ← Int32.not_lt, Classical.not_not] at c5); simp only [oRenews, gRenR, ← Int32.not_lt, c5, if_true, if_false, eq_self, Bool.false_eq_true, not_true_eq_false, not_false_eq_true, true_and, and_true, false_and, and_false, decide_true, decide_false, Bool.not_true, Bool.not_false, Bool.true_and, Bool.false_and]; try rfl) rfl)

