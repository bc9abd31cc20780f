set_option maxRecDepth 100000
theorem sale_of {D : Int} {w : Nat → Int32} {i : Nat} (hI : Inv D w) (hi : (i : Int) < (w 3).toInt) : i < 40 ∧ ((gSa w i 0).toInt = (tn (gSa w i 0) : Int) ∧ tn (gSa w i 0) < 4 ∧ (tn (gSa w i 0) : Int) < (w 2).toInt) ∧ ((gSa w i 1).toInt = (tn (gSa w i 1) : Int) ∧ tn (gSa w i 1) < 20 ∧ nI (tn (gSa w i 1)) = gSa w i 1) ∧ ((gSa w i 2).toInt = (tn (gSa w i 2) : Int) ∧ tn (gSa w i 2) < 3) := by
  have h3 := hI.2.2.2.1
  have h2 := hI.2.2.1
  obtain ⟨h4, h5, h6, -⟩ := hI.2.2.2.2.2.2.2 i hi
  refine ⟨by omega, ⟨?_, ?_, ?_⟩, ⟨?_, ?_, nI_tn h5.1⟩, ?_, ?_⟩ <;> unfold tn <;> omega
set_option maxHeartbeats 4000000 in
set_option maxRecDepth 100000 in
theorem sp_X3_takesBack {G : GG} {A : Nat → Nat} {S : Nat → Nat → Int32} {h : HP} (hi : inj 8 mdom A) {D : Int} (hI : Inv D (S 0)) {x : Int32} : Ct G 4 0 M_X3_takesBack [.ref (A 7), .int x] (ov (mdH A S) h) (eQ (some (.int (mres S (oBack (S 0) x)).1)) (ov (mdH A (mres S (oBack (S 0) x)).2) h)) := by
  refine ct_intro my_X3_takesBack (Nat.le_of_ble_eq_true rfl) ?_
  refine r_iload_n dX3_takesBack_0 rfl ?_
  refine r_iconst (v := 0) dX3_takesBack_1 rfl ?_
  first | refine r_aload_n dX3_takesBack_2 rfl ?_ | refine r_aload_nq dX3_takesBack_2 rfl ?_ | refine r_aload_nN dX3_takesBack_2 rfl ?_
  refine r_getfield 3 0 dX3_takesBack_3 rfl (Nat.le_of_ble_eq_true rfl) (lkA q1890) (Or.inl rfl) (Or.inl (m_o hi)) (by rfl) ?_
  refine r_iconst (v := 3) dX3_takesBack_6 rfl ?_
  refine r_iaload (3) dX3_takesBack_7 (by first | exact Or.inl (m_a0 hi) | exact Or.inl (m_a1 hi) | exact Or.inl (m_a2 hi) | exact Or.inl (m_a3 hi) | exact Or.inl (m_a4 hi) | exact Or.inl (m_a5 hi) | exact Or.inl (m_a6 hi)) rfl (Nat.le_of_ble_eq_true rfl) rfl ?_
  refine r_iconst (v := 1) dX3_takesBack_8 rfl ?_
  refine r_isub dX3_takesBack_9 ?_
  refine r_invS dX3_takesBack_10 (sp_X3_in ) rfl mo_X3_in (lkA q1947) (lkA q1948) (lkA q82) mp_X3_in (Nat.le_of_ble_eq_true rfl) (Nat.le_of_ble_eq_true rfl) (Nat.le_of_ble_eq_true rfl) (kr_e ?_) kx_e
  refine r_if_ne 19 dX3_takesBack_13 rfl (fun c13 => ?_) (fun c13 => ?_)
  · have hL := isL_of hI c13
    have hZ := sale_of hI hL.2.2.2
    have hxx : nI (tn x) = x := nI_tn (by have := hL.2.1; omega)
    have hz1 : nI (tn (S 0 (133 + 7 * tn x + 1))) = S 0 (133 + 7 * tn x + 1) := hZ.2.2.1.2.2
    refine r_sipush (v := 133) dX3_takesBack_19 rfl ?_
    refine r_bipush (v := 7) dX3_takesBack_22 rfl ?_
    refine r_iload_n dX3_takesBack_24 rfl ?_
    refine r_imul dX3_takesBack_25 ?_
    refine r_iadd dX3_takesBack_26 ?_
    refine r_istore_n dX3_takesBack_27 (Nat.le_of_ble_eq_true rfl) ?_
    first | refine r_aload_n dX3_takesBack_28 rfl ?_ | refine r_aload_nq dX3_takesBack_28 rfl ?_ | refine r_aload_nN dX3_takesBack_28 rfl ?_
    refine r_getfield 3 0 dX3_takesBack_29 rfl (Nat.le_of_ble_eq_true rfl) (lkA q1890) (Or.inl rfl) (Or.inl (m_o hi)) (by rfl) ?_
    refine r_iload_n dX3_takesBack_32 rfl ?_
    refine r_iaload (133 + 7 * tn x + 0) dX3_takesBack_33 (by first | exact Or.inl (m_a0 hi) | exact Or.inl (m_a1 hi) | exact Or.inl (m_a2 hi) | exact Or.inl (m_a3 hi) | exact Or.inl (m_a4 hi) | exact Or.inl (m_a5 hi) | exact Or.inl (m_a6 hi)) (by have := hL.2.1; have := hL.2.2.1; simp only [tI_add, tI_sub, tI_mul, tI_neg, Int32.reduceToInt]; omega) (by have := hL.2.2.1; omega) rfl ?_
    refine r_istore_n dX3_takesBack_34 (Nat.le_of_ble_eq_true rfl) ?_
    first | refine r_aload_n dX3_takesBack_35 rfl ?_ | refine r_aload_nq dX3_takesBack_35 rfl ?_ | refine r_aload_nN dX3_takesBack_35 rfl ?_
    refine r_getfield 3 0 dX3_takesBack_36 rfl (Nat.le_of_ble_eq_true rfl) (lkA q1890) (Or.inl rfl) (Or.inl (m_o hi)) (by rfl) ?_
    refine r_iload_n dX3_takesBack_39 rfl ?_
    refine r_iconst (v := 1) dX3_takesBack_40 rfl ?_
    refine r_iadd dX3_takesBack_41 ?_
    refine r_iaload (133 + 7 * tn x + 1) dX3_takesBack_42 (by first | exact Or.inl (m_a0 hi) | exact Or.inl (m_a1 hi) | exact Or.inl (m_a2 hi) | exact Or.inl (m_a3 hi) | exact Or.inl (m_a4 hi) | exact Or.inl (m_a5 hi) | exact Or.inl (m_a6 hi)) (by have := hL.2.1; have := hL.2.2.1; simp only [tI_add, tI_sub, tI_mul, tI_neg, Int32.reduceToInt]; omega) (by have := hL.2.2.1; omega) rfl ?_
    refine r_istore dX3_takesBack_43 (Nat.le_of_ble_eq_true rfl) ?_
    first | refine r_aload_n dX3_takesBack_45 rfl ?_ | refine r_aload_nq dX3_takesBack_45 rfl ?_ | refine r_aload_nN dX3_takesBack_45 rfl ?_
    refine r_getfield 3 0 dX3_takesBack_46 rfl (Nat.le_of_ble_eq_true rfl) (lkA q1890) (Or.inl rfl) (Or.inl (m_o hi)) (by rfl) ?_
    refine r_iload_n dX3_takesBack_49 rfl ?_
    refine r_iconst (v := 3) dX3_takesBack_50 rfl ?_
    refine r_iadd dX3_takesBack_51 ?_
    refine r_iaload (133 + 7 * tn x + 3) dX3_takesBack_52 (by first | exact Or.inl (m_a0 hi) | exact Or.inl (m_a1 hi) | exact Or.inl (m_a2 hi) | exact Or.inl (m_a3 hi) | exact Or.inl (m_a4 hi) | exact Or.inl (m_a5 hi) | exact Or.inl (m_a6 hi)) (by have := hL.2.1; have := hL.2.2.1; simp only [tI_add, tI_sub, tI_mul, tI_neg, Int32.reduceToInt]; omega) (by have := hL.2.2.1; omega) rfl ?_
    refine r_istore dX3_takesBack_53 (Nat.le_of_ble_eq_true rfl) ?_
    refine r_iload dX3_takesBack_55 rfl ?_
    first | refine r_aload_n dX3_takesBack_57 rfl ?_ | refine r_aload_nq dX3_takesBack_57 rfl ?_ | refine r_aload_nN dX3_takesBack_57 rfl ?_
    refine r_getfield 3 0 dX3_takesBack_58 rfl (Nat.le_of_ble_eq_true rfl) (lkA q1890) (Or.inl rfl) (Or.inl (m_o hi)) (by rfl) ?_
    refine r_iload_n dX3_takesBack_61 rfl ?_
    refine r_iconst (v := 4) dX3_takesBack_62 rfl ?_
    refine r_iadd dX3_takesBack_63 ?_
    refine r_iaload (133 + 7 * tn x + 4) dX3_takesBack_64 (by first | exact Or.inl (m_a0 hi) | exact Or.inl (m_a1 hi) | exact Or.inl (m_a2 hi) | exact Or.inl (m_a3 hi) | exact Or.inl (m_a4 hi) | exact Or.inl (m_a5 hi) | exact Or.inl (m_a6 hi)) (by have := hL.2.1; have := hL.2.2.1; simp only [tI_add, tI_sub, tI_mul, tI_neg, Int32.reduceToInt]; omega) (by have := hL.2.2.1; omega) rfl ?_
    refine r_imul dX3_takesBack_65 ?_
    refine r_istore dX3_takesBack_66 (Nat.le_of_ble_eq_true rfl) ?_
    first | refine r_aload_n dX3_takesBack_68 rfl ?_ | refine r_aload_nq dX3_takesBack_68 rfl ?_ | refine r_aload_nN dX3_takesBack_68 rfl ?_
    refine r_getfield 3 0 dX3_takesBack_69 rfl (Nat.le_of_ble_eq_true rfl) (lkA q1890) (Or.inl rfl) (Or.inl (m_o hi)) (by rfl) ?_
    refine r_iload_n dX3_takesBack_72 rfl ?_
    refine r_bipush (v := 6) dX3_takesBack_73 rfl ?_
    refine r_iadd dX3_takesBack_75 ?_
    refine r_iaload (133 + 7 * tn x + 6) dX3_takesBack_76 (by first | exact Or.inl (m_a0 hi) | exact Or.inl (m_a1 hi) | exact Or.inl (m_a2 hi) | exact Or.inl (m_a3 hi) | exact Or.inl (m_a4 hi) | exact Or.inl (m_a5 hi) | exact Or.inl (m_a6 hi)) (by have := hL.2.1; have := hL.2.2.1; simp only [tI_add, tI_sub, tI_mul, tI_neg, Int32.reduceToInt]; omega) (by have := hL.2.2.1; omega) rfl ?_
    refine r_iconst (v := 1) dX3_takesBack_77 rfl ?_
    refine r_icmp_ne 89 dX3_takesBack_78 rfl (fun c78 => ?_) (fun c78 => ?_)
    · first | refine r_aload_n dX3_takesBack_89 rfl ?_ | refine r_aload_nq dX3_takesBack_89 rfl ?_ | refine r_aload_nN dX3_takesBack_89 rfl ?_
      refine r_iload_n dX3_takesBack_90 rfl ?_
      refine r_iconst (v := 1) dX3_takesBack_91 rfl ?_
      refine r_invV dX3_takesBack_92 (sp_X3_of hi (tn (gSa (S 0) (tn x) 0)) 1 hZ.2.1.1 rfl (by have := hZ.2.1.2.1; omega)) rfl mo_X3_of (Or.inl (m_o hi)) rfl (lkA q1996) (lkA q1998) (lkA qs38) rfl (lkA q82) mp_X3_of (Nat.le_of_ble_eq_true rfl) (Nat.le_of_ble_eq_true rfl) (Nat.le_of_ble_eq_true rfl) (kr_e ?_) kx_e
      refine r_iload dX3_takesBack_95 rfl ?_
      refine r_icmp_eq 109 dX3_takesBack_97 rfl (fun c97 => ?_) (fun c97 => ?_)
      · first | refine r_aload_n dX3_takesBack_109 rfl ?_ | refine r_aload_nq dX3_takesBack_109 rfl ?_ | refine r_aload_nN dX3_takesBack_109 rfl ?_
        refine r_getfield 3 0 dX3_takesBack_110 rfl (Nat.le_of_ble_eq_true rfl) (lkA q1890) (Or.inl rfl) (Or.inl (m_o hi)) (by rfl) ?_
        refine r_iconst (v := 0) dX3_takesBack_113 rfl ?_
        refine r_iaload (0) dX3_takesBack_114 (by first | exact Or.inl (m_a0 hi) | exact Or.inl (m_a1 hi) | exact Or.inl (m_a2 hi) | exact Or.inl (m_a3 hi) | exact Or.inl (m_a4 hi) | exact Or.inl (m_a5 hi) | exact Or.inl (m_a6 hi)) rfl (Nat.le_of_ble_eq_true rfl) rfl ?_
        first | refine r_aload_n dX3_takesBack_115 rfl ?_ | refine r_aload_nq dX3_takesBack_115 rfl ?_ | refine r_aload_nN dX3_takesBack_115 rfl ?_
        refine r_getfield 3 0 dX3_takesBack_116 rfl (Nat.le_of_ble_eq_true rfl) (lkA q1890) (Or.inl rfl) (Or.inl (m_o hi)) (by rfl) ?_
        refine r_iload_n dX3_takesBack_119 rfl ?_
        refine r_iconst (v := 5) dX3_takesBack_120 rfl ?_
        refine r_iadd dX3_takesBack_121 ?_
        refine r_iaload (133 + 7 * tn x + 5) dX3_takesBack_122 (by first | exact Or.inl (m_a0 hi) | exact Or.inl (m_a1 hi) | exact Or.inl (m_a2 hi) | exact Or.inl (m_a3 hi) | exact Or.inl (m_a4 hi) | exact Or.inl (m_a5 hi) | exact Or.inl (m_a6 hi)) (by have := hL.2.1; have := hL.2.2.1; simp only [tI_add, tI_sub, tI_mul, tI_neg, Int32.reduceToInt]; omega) (by have := hL.2.2.1; omega) rfl ?_
        refine r_isub dX3_takesBack_123 ?_
        refine r_bipush (v := 7) dX3_takesBack_124 rfl ?_
        refine r_icmp_le 151 dX3_takesBack_126 rfl (fun c126 => ?_) (fun c126 => ?_)
        · first | refine r_aload_n dX3_takesBack_151 rfl ?_ | refine r_aload_nq dX3_takesBack_151 rfl ?_ | refine r_aload_nN dX3_takesBack_151 rfl ?_
          refine r_getfield 3 0 dX3_takesBack_152 rfl (Nat.le_of_ble_eq_true rfl) (lkA q1890) (Or.inl rfl) (Or.inl (m_o hi)) (by rfl) ?_
          refine r_iconst (v := 4) dX3_takesBack_155 rfl ?_
          refine r_iaload (4) dX3_takesBack_156 (by first | exact Or.inl (m_a0 hi) | exact Or.inl (m_a1 hi) | exact Or.inl (m_a2 hi) | exact Or.inl (m_a3 hi) | exact Or.inl (m_a4 hi) | exact Or.inl (m_a5 hi) | exact Or.inl (m_a6 hi)) rfl (Nat.le_of_ble_eq_true rfl) rfl ?_
          refine r_iload dX3_takesBack_157 rfl ?_
          refine r_icmp_ge 178 dX3_takesBack_159 rfl (fun c159 => ?_) (fun c159 => ?_)
          · refine r_iload dX3_takesBack_178 rfl ?_
            refine r_bipush (v := 12) dX3_takesBack_180 rfl ?_
            first | refine r_aload_n dX3_takesBack_182 rfl ?_ | refine r_aload_nq dX3_takesBack_182 rfl ?_ | refine r_aload_nN dX3_takesBack_182 rfl ?_
            refine r_iload_n dX3_takesBack_183 rfl ?_
            refine r_iconst (v := 3) dX3_takesBack_184 rfl ?_
            first | refine r_aload_n dX3_takesBack_185 rfl ?_ | refine r_aload_nq dX3_takesBack_185 rfl ?_ | refine r_aload_nN dX3_takesBack_185 rfl ?_
            refine r_getfield 3 0 dX3_takesBack_186 rfl (Nat.le_of_ble_eq_true rfl) (lkA q1890) (Or.inl rfl) (Or.inl (m_o hi)) (by rfl) ?_
            refine r_iload_n dX3_takesBack_189 rfl ?_
            refine r_iconst (v := 2) dX3_takesBack_190 rfl ?_
            refine r_iadd dX3_takesBack_191 ?_
            refine r_iaload (133 + 7 * tn x + 2) dX3_takesBack_192 (by first | exact Or.inl (m_a0 hi) | exact Or.inl (m_a1 hi) | exact Or.inl (m_a2 hi) | exact Or.inl (m_a3 hi) | exact Or.inl (m_a4 hi) | exact Or.inl (m_a5 hi) | exact Or.inl (m_a6 hi)) (by have := hL.2.1; have := hL.2.2.1; simp only [tI_add, tI_sub, tI_mul, tI_neg, Int32.reduceToInt]; omega) (by have := hL.2.2.1; omega) rfl ?_
            refine r_iadd dX3_takesBack_193 ?_
            refine r_invV dX3_takesBack_194 (sp_X3_of hi (tn (gSa (S 0) (tn x) 0)) (3 + tn (gSa (S 0) (tn x) 2)) hZ.2.1.1 (by have := hZ.2.2.2.1; have := hZ.2.2.2.2; simp only [tI_add, Int32.reduceToInt]; unfold gSa at *; omega) (by have := hZ.2.1.2.1; have := hZ.2.2.2.2; omega)) rfl mo_X3_of (Or.inl (m_o hi)) rfl (lkA q1996) (lkA q1998) (lkA qs38) rfl (lkA q82) mp_X3_of (Nat.le_of_ble_eq_true rfl) (Nat.le_of_ble_eq_true rfl) (Nat.le_of_ble_eq_true rfl) (kr_e ?_) kx_e
            refine r_isub dX3_takesBack_197 ?_
            refine r_mmin dX3_takesBack_198 (lkA q2082) (lkA q290) (lkA q74) (lkA q291) (Nat.le_of_ble_eq_true rfl) (Nat.le_of_ble_eq_true rfl) ?_
            refine r_istore dX3_takesBack_201 (Nat.le_of_ble_eq_true rfl) ?_
            first | refine r_aload_n dX3_takesBack_203 rfl ?_ | refine r_aload_nq dX3_takesBack_203 rfl ?_ | refine r_aload_nN dX3_takesBack_203 rfl ?_
            refine r_iload_n dX3_takesBack_204 rfl ?_
            refine r_iconst (v := 3) dX3_takesBack_205 rfl ?_
            first | refine r_aload_n dX3_takesBack_206 rfl ?_ | refine r_aload_nq dX3_takesBack_206 rfl ?_ | refine r_aload_nN dX3_takesBack_206 rfl ?_
            refine r_getfield 3 0 dX3_takesBack_207 rfl (Nat.le_of_ble_eq_true rfl) (lkA q1890) (Or.inl rfl) (Or.inl (m_o hi)) (by rfl) ?_
            refine r_iload_n dX3_takesBack_210 rfl ?_
            refine r_iconst (v := 2) dX3_takesBack_211 rfl ?_
            refine r_iadd dX3_takesBack_212 ?_
            refine r_iaload (133 + 7 * tn x + 2) dX3_takesBack_213 (by first | exact Or.inl (m_a0 hi) | exact Or.inl (m_a1 hi) | exact Or.inl (m_a2 hi) | exact Or.inl (m_a3 hi) | exact Or.inl (m_a4 hi) | exact Or.inl (m_a5 hi) | exact Or.inl (m_a6 hi)) (by have := hL.2.1; have := hL.2.2.1; simp only [tI_add, tI_sub, tI_mul, tI_neg, Int32.reduceToInt]; omega) (by have := hL.2.2.1; omega) rfl ?_
            refine r_iadd dX3_takesBack_214 ?_
            refine r_iload dX3_takesBack_215 rfl ?_
            refine r_invV dX3_takesBack_217 (sp_X3_adds hi (tn (gSa (S 0) (tn x) 0)) (3 + tn (gSa (S 0) (tn x) 2)) hZ.2.1.1 (by have := hZ.2.2.2.1; have := hZ.2.2.2.2; simp only [tI_add, Int32.reduceToInt]; unfold gSa at *; omega) (by have := hZ.2.1.2.1; have := hZ.2.2.2.2; omega)) rfl mo_X3_adds (Or.inl (m_o hi)) rfl (lkA q2000) (lkA q2002) (lkA qs39) rfl (lkA q82) mp_X3_adds (Nat.le_of_ble_eq_true rfl) (Nat.le_of_ble_eq_true rfl) (Nat.le_of_ble_eq_true rfl) (kr_e ?_) kx_e
            first | refine r_aload_n dX3_takesBack_220 rfl ?_ | refine r_aload_nq dX3_takesBack_220 rfl ?_ | refine r_aload_nN dX3_takesBack_220 rfl ?_
            refine r_iload_n dX3_takesBack_221 rfl ?_
            refine r_bipush (v := 7) dX3_takesBack_222 rfl ?_
            refine r_iload dX3_takesBack_224 rfl ?_
            refine r_invV dX3_takesBack_226 (sp_X3_adds hi (tn (gSa (S 0) (tn x) 0)) 7 hZ.2.1.1 rfl (by have := hZ.2.1.2.1; omega)) rfl mo_X3_adds (Or.inl (m_o hi)) rfl (lkA q2000) (lkA q2002) (lkA qs39) rfl (lkA q82) mp_X3_adds (Nat.le_of_ble_eq_true rfl) (Nat.le_of_ble_eq_true rfl) (Nat.le_of_ble_eq_true rfl) (kr_e ?_) kx_e
            first | refine r_aload_n dX3_takesBack_229 rfl ?_ | refine r_aload_nq dX3_takesBack_229 rfl ?_ | refine r_aload_nN dX3_takesBack_229 rfl ?_
            refine r_getfield 3 0 dX3_takesBack_230 rfl (Nat.le_of_ble_eq_true rfl) (lkA q1890) (Or.inl rfl) (Or.inl (m_o hi)) (by rfl) ?_
            refine r_bipush (v := 7) dX3_takesBack_233 rfl ?_
            refine r_dup2 dX3_takesBack_235 rfl rfl ?_
            refine r_iaload (7) dX3_takesBack_236 (by first | exact Or.inl (m_a0 hi) | exact Or.inl (m_a1 hi) | exact Or.inl (m_a2 hi) | exact Or.inl (m_a3 hi) | exact Or.inl (m_a4 hi) | exact Or.inl (m_a5 hi) | exact Or.inl (m_a6 hi)) rfl (Nat.le_of_ble_eq_true rfl) rfl ?_
            refine r_iload dX3_takesBack_237 rfl ?_
            refine r_iadd dX3_takesBack_239 ?_
            refine r_iastore (7) dX3_takesBack_240 (m_a0 hi) rfl (Nat.le_of_ble_eq_true rfl) ?_
            rw [m_w0 hi]
            first | refine r_aload_n dX3_takesBack_241 rfl ?_ | refine r_aload_nq dX3_takesBack_241 rfl ?_ | refine r_aload_nN dX3_takesBack_241 rfl ?_
            refine r_getfield 3 0 dX3_takesBack_242 rfl (Nat.le_of_ble_eq_true rfl) (lkA q1890) (Or.inl rfl) (Or.inl (m_o hi)) (by rfl) ?_
            refine r_bipush (v := 8) dX3_takesBack_245 rfl ?_
            refine r_dup2 dX3_takesBack_247 rfl rfl ?_
            refine r_iaload (8) dX3_takesBack_248 (by first | exact Or.inl (m_a0 hi) | exact Or.inl (m_a1 hi) | exact Or.inl (m_a2 hi) | exact Or.inl (m_a3 hi) | exact Or.inl (m_a4 hi) | exact Or.inl (m_a5 hi) | exact Or.inl (m_a6 hi)) rfl (Nat.le_of_ble_eq_true rfl) rfl ?_
            refine r_iload dX3_takesBack_249 rfl ?_
            refine r_iload dX3_takesBack_251 rfl ?_
            refine r_isub dX3_takesBack_253 ?_
            refine r_iadd dX3_takesBack_254 ?_
            refine r_iastore (8) dX3_takesBack_255 (m_a0 hi) rfl (Nat.le_of_ble_eq_true rfl) ?_
            rw [m_w0 hi]
            first | refine r_aload_n dX3_takesBack_256 rfl ?_ | refine r_aload_nq dX3_takesBack_256 rfl ?_ | refine r_aload_nN dX3_takesBack_256 rfl ?_
            refine r_getfield 3 0 dX3_takesBack_257 rfl (Nat.le_of_ble_eq_true rfl) (lkA q1890) (Or.inl rfl) (Or.inl (m_o hi)) (by rfl) ?_
            refine r_iconst (v := 4) dX3_takesBack_260 rfl ?_
            refine r_dup2 dX3_takesBack_261 rfl rfl ?_
            refine r_iaload (4) dX3_takesBack_262 (by first | exact Or.inl (m_a0 hi) | exact Or.inl (m_a1 hi) | exact Or.inl (m_a2 hi) | exact Or.inl (m_a3 hi) | exact Or.inl (m_a4 hi) | exact Or.inl (m_a5 hi) | exact Or.inl (m_a6 hi)) rfl (Nat.le_of_ble_eq_true rfl) rfl ?_
            refine r_iload dX3_takesBack_263 rfl ?_
            refine r_isub dX3_takesBack_265 ?_
            refine r_iastore (4) dX3_takesBack_266 (m_a0 hi) rfl (Nat.le_of_ble_eq_true rfl) ?_
            rw [m_w0 hi]
            first | refine r_aload_n dX3_takesBack_267 rfl ?_ | refine r_aload_nq dX3_takesBack_267 rfl ?_ | refine r_aload_nN dX3_takesBack_267 rfl ?_
            refine r_getfield 3 0 dX3_takesBack_268 rfl (Nat.le_of_ble_eq_true rfl) (lkA q1890) (Or.inl rfl) (Or.inl (m_o hi)) (by rfl) ?_
            refine r_bipush (v := 10) dX3_takesBack_271 rfl ?_
            refine r_dup2 dX3_takesBack_273 rfl rfl ?_
            refine r_iaload (10) dX3_takesBack_274 (by first | exact Or.inl (m_a0 hi) | exact Or.inl (m_a1 hi) | exact Or.inl (m_a2 hi) | exact Or.inl (m_a3 hi) | exact Or.inl (m_a4 hi) | exact Or.inl (m_a5 hi) | exact Or.inl (m_a6 hi)) rfl (Nat.le_of_ble_eq_true rfl) rfl ?_
            refine r_iload dX3_takesBack_275 rfl ?_
            refine r_iadd dX3_takesBack_277 ?_
            refine r_iastore (10) dX3_takesBack_278 (m_a0 hi) rfl (Nat.le_of_ble_eq_true rfl) ?_
            rw [m_w0 hi]
            first | refine r_aload_n dX3_takesBack_279 rfl ?_ | refine r_aload_nq dX3_takesBack_279 rfl ?_ | refine r_aload_nN dX3_takesBack_279 rfl ?_
            refine r_iload dX3_takesBack_280 rfl ?_
            refine r_iconst (v := 2) dX3_takesBack_282 rfl ?_
            refine r_invV dX3_takesBack_283 (sp_X3_calms hi (tn (gSa (S 0) (tn x) 1)) hZ.2.2.1.1 hZ.2.2.1.2.1) rfl mo_X3_calms (Or.inl (m_o hi)) rfl (lkA q2095) (lkA q2097) (lkA qs50) rfl (lkA q82) mp_X3_calms (Nat.le_of_ble_eq_true rfl) (Nat.le_of_ble_eq_true rfl) (Nat.le_of_ble_eq_true rfl) (kr_e ?_) kx_e
            first | refine r_aload_n dX3_takesBack_286 rfl ?_ | refine r_aload_nq dX3_takesBack_286 rfl ?_ | refine r_aload_nN dX3_takesBack_286 rfl ?_
            refine r_getfield 3 0 dX3_takesBack_287 rfl (Nat.le_of_ble_eq_true rfl) (lkA q1890) (Or.inl rfl) (Or.inl (m_o hi)) (by rfl) ?_
            refine r_iload_n dX3_takesBack_290 rfl ?_
            refine r_bipush (v := 6) dX3_takesBack_291 rfl ?_
            refine r_iadd dX3_takesBack_293 ?_
            refine r_iconst (v := 1) dX3_takesBack_294 rfl ?_
            refine r_iastore (133 + 7 * tn x + 6) dX3_takesBack_295 (m_a0 hi) (by have := hL.2.1; have := hL.2.2.1; simp only [tI_add, tI_sub, tI_mul, tI_neg, Int32.reduceToInt]; omega) (by have := hL.2.2.1; omega) ?_
            rw [m_w0 hi]
            first | refine r_aload_n dX3_takesBack_296 rfl ?_ | refine r_aload_nq dX3_takesBack_296 rfl ?_ | refine r_aload_nN dX3_takesBack_296 rfl ?_
            refine r_iload dX3_takesBack_297 rfl ?_
            refine r_invV dX3_takesBack_299 (sp_X3_does hi) rfl mo_X3_does (Or.inl (m_o hi)) rfl (lkA q2004) (lkA q2006) (lkA qs40) rfl (lkA q82) mp_X3_does (Nat.le_of_ble_eq_true rfl) (Nat.le_of_ble_eq_true rfl) (Nat.le_of_ble_eq_true rfl) (kr_e ?_) kx_e
            exact r_ireturn dX3_takesBack_302 rfl (by first | rfl | exact bi_nar) (res_K (by (try simp only [gSa, Nat.add_zero, bi_0, Bool.not_eq_false, s10, ss0, ← Int32.not_lt, Classical.not_not] at c13); (try simp only [gSa, Nat.add_zero, bi_0, Bool.not_eq_false, s10, ss0, ← Int32.not_lt, Classical.not_not] at c78); (try simp only [gSa, Nat.add_zero, bi_0, Bool.not_eq_false, s10, ss0, ← Int32.not_lt, Classical.not_not] at c97); (try simp only [gSa, Nat.add_zero, bi_0, Bool.not_eq_false, s10, ss0, ← Int32.not_lt, Classical.not_not] at c126); (try simp only [gSa, Nat.add_zero, bi_0, Bool.not_eq_false, s10, ss0, ← Int32.not_lt, Classical.not_not] at c159); simp only [oBack, gBackR, isL, gSa, Nat.add_zero, hz1, hxx, ← Int32.not_lt, c13, c78, c97, c126, c159, if_true, if_false, eq_self, Bool.false_eq_true, not_true_eq_false, not_false_eq_true, true_and, and_true, false_and, and_false, decide_true, decide_false, Bool.not_true, Bool.not_false, Bool.true_and, Bool.false_and]; try rfl) (by simp only [sa_sa, sa_s]; rfl))
          · first | refine r_aload_n dX3_takesBack_162 rfl ?_ | refine r_aload_nq dX3_takesBack_162 rfl ?_ | refine r_aload_nN dX3_takesBack_162 rfl ?_
            refine r_bipush (v := 8) dX3_takesBack_163 rfl ?_
            refine r_iload dX3_takesBack_165 rfl ?_
            first | refine r_aload_n dX3_takesBack_167 rfl ?_ | refine r_aload_nq dX3_takesBack_167 rfl ?_ | refine r_aload_nN dX3_takesBack_167 rfl ?_
            refine r_getfield 3 0 dX3_takesBack_168 rfl (Nat.le_of_ble_eq_true rfl) (lkA q1890) (Or.inl rfl) (Or.inl (m_o hi)) (by rfl) ?_
            refine r_iconst (v := 4) dX3_takesBack_171 rfl ?_
            refine r_iaload (4) dX3_takesBack_172 (by first | exact Or.inl (m_a0 hi) | exact Or.inl (m_a1 hi) | exact Or.inl (m_a2 hi) | exact Or.inl (m_a3 hi) | exact Or.inl (m_a4 hi) | exact Or.inl (m_a5 hi) | exact Or.inl (m_a6 hi)) rfl (Nat.le_of_ble_eq_true rfl) rfl ?_
            refine r_isub dX3_takesBack_173 ?_
            refine r_invV dX3_takesBack_174 (sp_X3_refuses hi) rfl mo_X3_refuses (Or.inl (m_o hi)) rfl (lkA q1950) (lkA q1952) (lkA qs31) rfl (lkA q82) mp_X3_refuses (Nat.le_of_ble_eq_true rfl) (Nat.le_of_ble_eq_true rfl) (Nat.le_of_ble_eq_true rfl) (kr_e ?_) kx_e
            exact r_ireturn dX3_takesBack_177 rfl (by first | rfl | exact bi_nar) (res_R (by (try simp only [gSa, Nat.add_zero, bi_0, Bool.not_eq_false, s10, ss0, ← Int32.not_lt, Classical.not_not] at c13); (try simp only [gSa, Nat.add_zero, bi_0, Bool.not_eq_false, s10, ss0, ← Int32.not_lt, Classical.not_not] at c78); (try simp only [gSa, Nat.add_zero, bi_0, Bool.not_eq_false, s10, ss0, ← Int32.not_lt, Classical.not_not] at c97); (try simp only [gSa, Nat.add_zero, bi_0, Bool.not_eq_false, s10, ss0, ← Int32.not_lt, Classical.not_not] at c126); (try simp only [gSa, Nat.add_zero, bi_0, Bool.not_eq_false, s10, ss0, ← Int32.not_lt, Classical.not_not] at c159); simp only [oBack, gBackR, isL, gSa, Nat.add_zero, hz1, hxx, ← Int32.not_lt, c13, c78, c97, c126, c159, if_true, if_false, eq_self, Bool.false_eq_true, not_true_eq_false, not_false_eq_true, true_and, and_true, false_and, and_false, decide_true, decide_false, Bool.not_true, Bool.not_false, Bool.true_and, Bool.false_and]; try rfl) rfl)
        · first | refine r_aload_n dX3_takesBack_129 rfl ?_ | refine r_aload_nq dX3_takesBack_129 rfl ?_ | refine r_aload_nN dX3_takesBack_129 rfl ?_
          refine r_bipush (v := 13) dX3_takesBack_130 rfl ?_
          first | refine r_aload_n dX3_takesBack_132 rfl ?_ | refine r_aload_nq dX3_takesBack_132 rfl ?_ | refine r_aload_nN dX3_takesBack_132 rfl ?_
          refine r_getfield 3 0 dX3_takesBack_133 rfl (Nat.le_of_ble_eq_true rfl) (lkA q1890) (Or.inl rfl) (Or.inl (m_o hi)) (by rfl) ?_
          refine r_iconst (v := 0) dX3_takesBack_136 rfl ?_
          refine r_iaload (0) dX3_takesBack_137 (by first | exact Or.inl (m_a0 hi) | exact Or.inl (m_a1 hi) | exact Or.inl (m_a2 hi) | exact Or.inl (m_a3 hi) | exact Or.inl (m_a4 hi) | exact Or.inl (m_a5 hi) | exact Or.inl (m_a6 hi)) rfl (Nat.le_of_ble_eq_true rfl) rfl ?_
          first | refine r_aload_n dX3_takesBack_138 rfl ?_ | refine r_aload_nq dX3_takesBack_138 rfl ?_ | refine r_aload_nN dX3_takesBack_138 rfl ?_
          refine r_getfield 3 0 dX3_takesBack_139 rfl (Nat.le_of_ble_eq_true rfl) (lkA q1890) (Or.inl rfl) (Or.inl (m_o hi)) (by rfl) ?_
          refine r_iload_n dX3_takesBack_142 rfl ?_
          refine r_iconst (v := 5) dX3_takesBack_143 rfl ?_
          refine r_iadd dX3_takesBack_144 ?_
          refine r_iaload (133 + 7 * tn x + 5) dX3_takesBack_145 (by first | exact Or.inl (m_a0 hi) | exact Or.inl (m_a1 hi) | exact Or.inl (m_a2 hi) | exact Or.inl (m_a3 hi) | exact Or.inl (m_a4 hi) | exact Or.inl (m_a5 hi) | exact Or.inl (m_a6 hi)) (by have := hL.2.1; have := hL.2.2.1; simp only [tI_add, tI_sub, tI_mul, tI_neg, Int32.reduceToInt]; omega) (by have := hL.2.2.1; omega) rfl ?_
          refine r_isub dX3_takesBack_146 ?_
          refine r_invV dX3_takesBack_147 (sp_X3_refuses hi) rfl mo_X3_refuses (Or.inl (m_o hi)) rfl (lkA q1950) (lkA q1952) (lkA qs31) rfl (lkA q82) mp_X3_refuses (Nat.le_of_ble_eq_true rfl) (Nat.le_of_ble_eq_true rfl) (Nat.le_of_ble_eq_true rfl) (kr_e ?_) kx_e
          exact r_ireturn dX3_takesBack_150 rfl (by first | rfl | exact bi_nar) (res_R (by (try simp only [gSa, Nat.add_zero, bi_0, Bool.not_eq_false, s10, ss0, ← Int32.not_lt, Classical.not_not] at c13); (try simp only [gSa, Nat.add_zero, bi_0, Bool.not_eq_false, s10, ss0, ← Int32.not_lt, Classical.not_not] at c78); (try simp only [gSa, Nat.add_zero, bi_0, Bool.not_eq_false, s10, ss0, ← Int32.not_lt, Classical.not_not] at c97); (try simp only [gSa, Nat.add_zero, bi_0, Bool.not_eq_false, s10, ss0, ← Int32.not_lt, Classical.not_not] at c126); simp only [oBack, gBackR, isL, gSa, Nat.add_zero, hz1, hxx, ← Int32.not_lt, c13, c78, c97, c126, if_true, if_false, eq_self, Bool.false_eq_true, not_true_eq_false, not_false_eq_true, true_and, and_true, false_and, and_false, decide_true, decide_false, Bool.not_true, Bool.not_false, Bool.true_and, Bool.false_and]; try rfl) rfl)
      · first | refine r_aload_n dX3_takesBack_100 rfl ?_ | refine r_aload_nq dX3_takesBack_100 rfl ?_ | refine r_aload_nN dX3_takesBack_100 rfl ?_
        refine r_bipush (v := 12) dX3_takesBack_101 rfl ?_
        refine r_iload dX3_takesBack_103 rfl ?_
        refine r_invV dX3_takesBack_105 (sp_X3_refuses hi) rfl mo_X3_refuses (Or.inl (m_o hi)) rfl (lkA q1950) (lkA q1952) (lkA qs31) rfl (lkA q82) mp_X3_refuses (Nat.le_of_ble_eq_true rfl) (Nat.le_of_ble_eq_true rfl) (Nat.le_of_ble_eq_true rfl) (kr_e ?_) kx_e
        exact r_ireturn dX3_takesBack_108 rfl (by first | rfl | exact bi_nar) (res_R (by (try simp only [gSa, Nat.add_zero, bi_0, Bool.not_eq_false, s10, ss0, ← Int32.not_lt, Classical.not_not] at c13); (try simp only [gSa, Nat.add_zero, bi_0, Bool.not_eq_false, s10, ss0, ← Int32.not_lt, Classical.not_not] at c78); (try simp only [gSa, Nat.add_zero, bi_0, Bool.not_eq_false, s10, ss0, ← Int32.not_lt, Classical.not_not] at c97); simp only [oBack, gBackR, isL, gSa, Nat.add_zero, hz1, hxx, ← Int32.not_lt, c13, c78, c97, if_true, if_false, eq_self, Bool.false_eq_true, not_true_eq_false, not_false_eq_true, true_and, and_true, false_and, and_false, decide_true, decide_false, Bool.not_true, Bool.not_false, Bool.true_and, Bool.false_and]; try rfl) rfl)
    · first | refine r_aload_n dX3_takesBack_81 rfl ?_ | refine r_aload_nq dX3_takesBack_81 rfl ?_ | refine r_aload_nN dX3_takesBack_81 rfl ?_
      refine r_bipush (v := 11) dX3_takesBack_82 rfl ?_
      refine r_iload_n dX3_takesBack_84 rfl ?_
      refine r_invV dX3_takesBack_85 (sp_X3_refuses hi) rfl mo_X3_refuses (Or.inl (m_o hi)) rfl (lkA q1950) (lkA q1952) (lkA qs31) rfl (lkA q82) mp_X3_refuses (Nat.le_of_ble_eq_true rfl) (Nat.le_of_ble_eq_true rfl) (Nat.le_of_ble_eq_true rfl) (kr_e ?_) kx_e
      exact r_ireturn dX3_takesBack_88 rfl (by first | rfl | exact bi_nar) (res_R (by (try simp only [gSa, Nat.add_zero, bi_0, Bool.not_eq_false, s10, ss0, ← Int32.not_lt, Classical.not_not] at c13); (try simp only [gSa, Nat.add_zero, bi_0, Bool.not_eq_false, s10, ss0, ← Int32.not_lt, Classical.not_not] at c78); simp only [oBack, gBackR, isL, gSa, Nat.add_zero, hz1, hxx, ← Int32.not_lt, c13, c78, if_true, if_false, eq_self, Bool.false_eq_true, not_true_eq_false, not_false_eq_true, true_and, and_true, false_and, and_false, decide_true, decide_false, Bool.not_true, Bool.not_false, Bool.true_and, Bool.false_and]; try rfl) rfl)
  · refine r_bipush (v := (-11)) dX3_takesBack_16 rfl ?_
    exact r_ireturn dX3_takesBack_18 rfl (by first | rfl | exact bi_nar) (res_C (by (try simp only [gSa, Nat.add_zero, bi_0, Bool.not_eq_false, s10, ss0, ← Int32.not_lt, Classical.not_not] at c13); simp only [oBack, gBackR, isL, gSa, Nat.add_zero, ← Int32.not_lt, c13, if_true, if_false, eq_self, Bool.false_eq_true, not_true_eq_false, not_false_eq_true, true_and, and_true, false_and, and_false, decide_true, decide_false, Bool.not_true, Bool.not_false, Bool.true_and, Bool.false_and]; try rfl) rfl)

