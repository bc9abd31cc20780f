set_option maxRecDepth 100000
theorem WL_0 {S : Nat → Nat → Int32} : WL S (ss S 2 0) [] := ⟨fun i _ h7 => ss_ar h7, fun j hj => ss_o hj, ss_at, Nat.zero_le _, fun j hj => absurd hj (Nat.not_lt_zero j)⟩
set_option maxHeartbeats 4000000 in
set_option maxRecDepth 100000 in
theorem sp_X3_tell {G : GG} {A : Nat → Nat} {S : Nat → Nat → Int32} {h : HP} (hi : inj 8 mdom A) (hT : KT G) {ka : Nat → Nat} (hKC : KC G ka) {D : Int} (hI : Inv D (S 0)) {x : Int32}  : Ct G 5 0 M_X3_tell [.ref (A 7), .int x] (ov (mdH A S) h) (rQ (fun v h' => if isS (S 0) x = true then v = some (.int (nI (txS (S 0) (tn x)).length)) ∧ ∃ S', h' = ov (mdH A S') h ∧ WL S S' (txS (S 0) (tn x)) else v = some (.int (-11)) ∧ h' = ov (mdH A S) h)) := by
  refine ct_intro my_X3_tell (Nat.le_of_ble_eq_true rfl) ?_
  first | refine r_aload_n dX3_tell_0 rfl ?_ | refine r_aload_nq dX3_tell_0 rfl ?_ | refine r_aload_nN dX3_tell_0 rfl ?_
  refine r_iload_n dX3_tell_1 rfl ?_
  refine r_invV dX3_tell_2 (sp_X3_isSeller hi) rfl mo_X3_isSeller (Or.inl (m_o hi)) rfl (lkA q1992) (lkA q1994) (lkA qs37) rfl (lkA q82) mp_X3_isSeller (Nat.le_of_ble_eq_true rfl) (Nat.le_of_ble_eq_true rfl) (Nat.le_of_ble_eq_true rfl) (kr_e ?_) kx_e
  refine r_if_ne 11 dX3_tell_5 rfl (fun c5 => ?_) (fun c5 => ?_)
  · first | refine r_aload_n dX3_tell_11 rfl ?_ | refine r_aload_nq dX3_tell_11 rfl ?_ | refine r_aload_nN dX3_tell_11 rfl ?_
    refine r_iconst (v := 0) dX3_tell_12 rfl ?_
    refine r_put 3 7 dX3_tell_13 rfl (Nat.le_of_ble_eq_true rfl) (lkA q1897) (Or.inl rfl) rfl (m_o hi) (by dsimp only [List.set]) (Nat.le_of_ble_eq_true rfl) rfl rfl (m_s2 hi) ?_
    have hW := WL_0 (S := S)
    have hd_1 := (digs_l (v := tn (gSl (S 0) (tn x) 1))).2
    have hd_3 := (digs_l (v := tn (gSl (S 0) (tn x) 3))).2
    have hd_4 := (digs_l (v := tn (gSl (S 0) (tn x) 4))).2
    have hd_5 := (digs_l (v := tn (gSl (S 0) (tn x) 5))).2
    have hd_2 := (digs_l (v := tn (gSl (S 0) (tn x) 2))).2
    have hk_10 := kch_l 10 (Nat.le_of_ble_eq_true rfl)
    have hk_11 := kch_l 11 (Nat.le_of_ble_eq_true rfl)
    have hk_12 := kch_l 12 (Nat.le_of_ble_eq_true rfl)
    have hk_13 := kch_l 13 (Nat.le_of_ble_eq_true rfl)
    have hk_14 := kch_l 14 (Nat.le_of_ble_eq_true rfl)
    first | refine r_aload_n dX3_tell_16 rfl ?_ | refine r_aload_nq dX3_tell_16 rfl ?_ | refine r_aload_nN dX3_tell_16 rfl ?_
    refine r_ldcS dX3_tell_17 (show Str G "BrushSellersModel" 217 "@" (ka 10) from hKC.1 34 (Nat.le_of_ble_eq_true rfl)) ?_
    refine r_invV dX3_tell_19 (sp_X3_writes hi hT hKC hW (k := 10) (by decide) (by simp only [List.length_append, List.length_nil]; omega)) rfl mo_X3_writes (Or.inl (m_o hi)) rfl (lkA q2170) (lkA q2172) (lkA qs59) rfl (lkA q82) mp_X3_writes (Nat.le_of_ble_eq_true rfl) (Nat.le_of_ble_eq_true rfl) (Nat.le_of_ble_eq_true rfl) (kr_r (fun v9 h9 p9 => ?_)) kx_r
    obtain ⟨rfl, S2, rfl, hW⟩ := p9
    first | refine r_aload_n dX3_tell_22 rfl ?_ | refine r_aload_nq dX3_tell_22 rfl ?_ | refine r_aload_nN dX3_tell_22 rfl ?_
    first | refine r_aload_n dX3_tell_23 rfl ?_ | refine r_aload_nq dX3_tell_23 rfl ?_ | refine r_aload_nN dX3_tell_23 rfl ?_
    refine r_iload_n dX3_tell_24 rfl ?_
    refine r_iconst (v := 1) dX3_tell_25 rfl ?_
    refine r_invV dX3_tell_26 (sp_X3_of hi (tn x) 1 (isS_of hI c5).2.1 rfl (by have := (isS_of hI c5).2.2.1; omega)) rfl mo_X3_of (Or.inl (m_o hi)) rfl (lkA q1996) (lkA q1998) (lkA qs38) rfl (lkA q82) mp_X3_of (Nat.le_of_ble_eq_true rfl) (Nat.le_of_ble_eq_true rfl) (Nat.le_of_ble_eq_true rfl) (kr_e ?_) kx_e
    rw [hW.1 0 (by decide) (by decide)]
    refine r_invV dX3_tell_29 (sp_X3_writesNumber hi hW (by have := (hI.2.2.2.2.2.1 (tn x) (isS_of hI c5).2.2.2).2.1; omega) (by simp only [List.length_append, List.length_nil]; omega)) rfl mo_X3_writesNumber (Or.inl (m_o hi)) rfl (lkA q2174) (lkA q2176) (lkA qs60) rfl (lkA q82) mp_X3_writesNumber (Nat.le_of_ble_eq_true rfl) (Nat.le_of_ble_eq_true rfl) (Nat.le_of_ble_eq_true rfl) (kr_r (fun v9 h9 p9 => ?_)) kx_r
    obtain ⟨rfl, S2, rfl, hW⟩ := p9
    first | refine r_aload_n dX3_tell_32 rfl ?_ | refine r_aload_nq dX3_tell_32 rfl ?_ | refine r_aload_nN dX3_tell_32 rfl ?_
    refine r_ldcS dX3_tell_33 (show Str G "BrushSellersModel" 223 " h" (ka 11) from hKC.1 35 (Nat.le_of_ble_eq_true rfl)) ?_
    refine r_invV dX3_tell_35 (sp_X3_writes hi hT hKC hW (k := 11) (by decide) (by simp only [List.length_append, List.length_nil]; omega)) rfl mo_X3_writes (Or.inl (m_o hi)) rfl (lkA q2170) (lkA q2172) (lkA qs59) rfl (lkA q82) mp_X3_writes (Nat.le_of_ble_eq_true rfl) (Nat.le_of_ble_eq_true rfl) (Nat.le_of_ble_eq_true rfl) (kr_r (fun v9 h9 p9 => ?_)) kx_r
    obtain ⟨rfl, S2, rfl, hW⟩ := p9
    first | refine r_aload_n dX3_tell_38 rfl ?_ | refine r_aload_nq dX3_tell_38 rfl ?_ | refine r_aload_nN dX3_tell_38 rfl ?_
    first | refine r_aload_n dX3_tell_39 rfl ?_ | refine r_aload_nq dX3_tell_39 rfl ?_ | refine r_aload_nN dX3_tell_39 rfl ?_
    refine r_iload_n dX3_tell_40 rfl ?_
    refine r_iconst (v := 3) dX3_tell_41 rfl ?_
    refine r_invV dX3_tell_42 (sp_X3_of hi (tn x) 3 (isS_of hI c5).2.1 rfl (by have := (isS_of hI c5).2.2.1; omega)) rfl mo_X3_of (Or.inl (m_o hi)) rfl (lkA q1996) (lkA q1998) (lkA qs38) rfl (lkA q82) mp_X3_of (Nat.le_of_ble_eq_true rfl) (Nat.le_of_ble_eq_true rfl) (Nat.le_of_ble_eq_true rfl) (kr_e ?_) kx_e
    rw [hW.1 0 (by decide) (by decide)]
    refine r_invV dX3_tell_45 (sp_X3_writesNumber hi hW (by have : 0 ≤ (gSl (S 0) (tn x) 3).toInt ∧ (gSl (S 0) (tn x) 3).toInt ≤ 12 := (hI.2.2.2.2.2.1 (tn x) (isS_of hI c5).2.2.2).2.2.2 0 (by decide); omega) (by simp only [List.length_append, List.length_nil]; omega)) rfl mo_X3_writesNumber (Or.inl (m_o hi)) rfl (lkA q2174) (lkA q2176) (lkA qs60) rfl (lkA q82) mp_X3_writesNumber (Nat.le_of_ble_eq_true rfl) (Nat.le_of_ble_eq_true rfl) (Nat.le_of_ble_eq_true rfl) (kr_r (fun v9 h9 p9 => ?_)) kx_r
    obtain ⟨rfl, S2, rfl, hW⟩ := p9
    first | refine r_aload_n dX3_tell_48 rfl ?_ | refine r_aload_nq dX3_tell_48 rfl ?_ | refine r_aload_nN dX3_tell_48 rfl ?_
    refine r_ldcS dX3_tell_49 (show Str G "BrushSellersModel" 225 " o" (ka 12) from hKC.1 36 (Nat.le_of_ble_eq_true rfl)) ?_
    refine r_invV dX3_tell_51 (sp_X3_writes hi hT hKC hW (k := 12) (by decide) (by simp only [List.length_append, List.length_nil]; omega)) rfl mo_X3_writes (Or.inl (m_o hi)) rfl (lkA q2170) (lkA q2172) (lkA qs59) rfl (lkA q82) mp_X3_writes (Nat.le_of_ble_eq_true rfl) (Nat.le_of_ble_eq_true rfl) (Nat.le_of_ble_eq_true rfl) (kr_r (fun v9 h9 p9 => ?_)) kx_r
    obtain ⟨rfl, S2, rfl, hW⟩ := p9
    first | refine r_aload_n dX3_tell_54 rfl ?_ | refine r_aload_nq dX3_tell_54 rfl ?_ | refine r_aload_nN dX3_tell_54 rfl ?_
    first | refine r_aload_n dX3_tell_55 rfl ?_ | refine r_aload_nq dX3_tell_55 rfl ?_ | refine r_aload_nN dX3_tell_55 rfl ?_
    refine r_iload_n dX3_tell_56 rfl ?_
    refine r_iconst (v := 4) dX3_tell_57 rfl ?_
    refine r_invV dX3_tell_58 (sp_X3_of hi (tn x) 4 (isS_of hI c5).2.1 rfl (by have := (isS_of hI c5).2.2.1; omega)) rfl mo_X3_of (Or.inl (m_o hi)) rfl (lkA q1996) (lkA q1998) (lkA qs38) rfl (lkA q82) mp_X3_of (Nat.le_of_ble_eq_true rfl) (Nat.le_of_ble_eq_true rfl) (Nat.le_of_ble_eq_true rfl) (kr_e ?_) kx_e
    rw [hW.1 0 (by decide) (by decide)]
    refine r_invV dX3_tell_61 (sp_X3_writesNumber hi hW (by have : 0 ≤ (gSl (S 0) (tn x) 4).toInt ∧ (gSl (S 0) (tn x) 4).toInt ≤ 12 := (hI.2.2.2.2.2.1 (tn x) (isS_of hI c5).2.2.2).2.2.2 1 (by decide); omega) (by simp only [List.length_append, List.length_nil]; omega)) rfl mo_X3_writesNumber (Or.inl (m_o hi)) rfl (lkA q2174) (lkA q2176) (lkA qs60) rfl (lkA q82) mp_X3_writesNumber (Nat.le_of_ble_eq_true rfl) (Nat.le_of_ble_eq_true rfl) (Nat.le_of_ble_eq_true rfl) (kr_r (fun v9 h9 p9 => ?_)) kx_r
    obtain ⟨rfl, S2, rfl, hW⟩ := p9
    first | refine r_aload_n dX3_tell_64 rfl ?_ | refine r_aload_nq dX3_tell_64 rfl ?_ | refine r_aload_nN dX3_tell_64 rfl ?_
    refine r_ldcS dX3_tell_65 (show Str G "BrushSellersModel" 227 " w" (ka 13) from hKC.1 37 (Nat.le_of_ble_eq_true rfl)) ?_
    refine r_invV dX3_tell_67 (sp_X3_writes hi hT hKC hW (k := 13) (by decide) (by simp only [List.length_append, List.length_nil]; omega)) rfl mo_X3_writes (Or.inl (m_o hi)) rfl (lkA q2170) (lkA q2172) (lkA qs59) rfl (lkA q82) mp_X3_writes (Nat.le_of_ble_eq_true rfl) (Nat.le_of_ble_eq_true rfl) (Nat.le_of_ble_eq_true rfl) (kr_r (fun v9 h9 p9 => ?_)) kx_r
    obtain ⟨rfl, S2, rfl, hW⟩ := p9
    first | refine r_aload_n dX3_tell_70 rfl ?_ | refine r_aload_nq dX3_tell_70 rfl ?_ | refine r_aload_nN dX3_tell_70 rfl ?_
    first | refine r_aload_n dX3_tell_71 rfl ?_ | refine r_aload_nq dX3_tell_71 rfl ?_ | refine r_aload_nN dX3_tell_71 rfl ?_
    refine r_iload_n dX3_tell_72 rfl ?_
    refine r_iconst (v := 5) dX3_tell_73 rfl ?_
    refine r_invV dX3_tell_74 (sp_X3_of hi (tn x) 5 (isS_of hI c5).2.1 rfl (by have := (isS_of hI c5).2.2.1; omega)) rfl mo_X3_of (Or.inl (m_o hi)) rfl (lkA q1996) (lkA q1998) (lkA qs38) rfl (lkA q82) mp_X3_of (Nat.le_of_ble_eq_true rfl) (Nat.le_of_ble_eq_true rfl) (Nat.le_of_ble_eq_true rfl) (kr_e ?_) kx_e
    rw [hW.1 0 (by decide) (by decide)]
    refine r_invV dX3_tell_77 (sp_X3_writesNumber hi hW (by have : 0 ≤ (gSl (S 0) (tn x) 5).toInt ∧ (gSl (S 0) (tn x) 5).toInt ≤ 12 := (hI.2.2.2.2.2.1 (tn x) (isS_of hI c5).2.2.2).2.2.2 2 (by decide); omega) (by simp only [List.length_append, List.length_nil]; omega)) rfl mo_X3_writesNumber (Or.inl (m_o hi)) rfl (lkA q2174) (lkA q2176) (lkA qs60) rfl (lkA q82) mp_X3_writesNumber (Nat.le_of_ble_eq_true rfl) (Nat.le_of_ble_eq_true rfl) (Nat.le_of_ble_eq_true rfl) (kr_r (fun v9 h9 p9 => ?_)) kx_r
    obtain ⟨rfl, S2, rfl, hW⟩ := p9
    first | refine r_aload_n dX3_tell_80 rfl ?_ | refine r_aload_nq dX3_tell_80 rfl ?_ | refine r_aload_nN dX3_tell_80 rfl ?_
    refine r_ldcS dX3_tell_81 (show Str G "BrushSellersModel" 229 " ~" (ka 14) from hKC.1 38 (Nat.le_of_ble_eq_true rfl)) ?_
    refine r_invV dX3_tell_83 (sp_X3_writes hi hT hKC hW (k := 14) (by decide) (by simp only [List.length_append, List.length_nil]; omega)) rfl mo_X3_writes (Or.inl (m_o hi)) rfl (lkA q2170) (lkA q2172) (lkA qs59) rfl (lkA q82) mp_X3_writes (Nat.le_of_ble_eq_true rfl) (Nat.le_of_ble_eq_true rfl) (Nat.le_of_ble_eq_true rfl) (kr_r (fun v9 h9 p9 => ?_)) kx_r
    obtain ⟨rfl, S2, rfl, hW⟩ := p9
    first | refine r_aload_n dX3_tell_86 rfl ?_ | refine r_aload_nq dX3_tell_86 rfl ?_ | refine r_aload_nN dX3_tell_86 rfl ?_
    first | refine r_aload_n dX3_tell_87 rfl ?_ | refine r_aload_nq dX3_tell_87 rfl ?_ | refine r_aload_nN dX3_tell_87 rfl ?_
    refine r_iload_n dX3_tell_88 rfl ?_
    refine r_iconst (v := 2) dX3_tell_89 rfl ?_
    refine r_invV dX3_tell_90 (sp_X3_of hi (tn x) 2 (isS_of hI c5).2.1 rfl (by have := (isS_of hI c5).2.2.1; omega)) rfl mo_X3_of (Or.inl (m_o hi)) rfl (lkA q1996) (lkA q1998) (lkA qs38) rfl (lkA q82) mp_X3_of (Nat.le_of_ble_eq_true rfl) (Nat.le_of_ble_eq_true rfl) (Nat.le_of_ble_eq_true rfl) (kr_e ?_) kx_e
    rw [hW.1 0 (by decide) (by decide)]
    refine r_invV dX3_tell_93 (sp_X3_writesNumber hi hW (hI.2.2.2.2.2.1 (tn x) (isS_of hI c5).2.2.2).2.2.1 (by simp only [List.length_append, List.length_nil]; omega)) rfl mo_X3_writesNumber (Or.inl (m_o hi)) rfl (lkA q2174) (lkA q2176) (lkA qs60) rfl (lkA q82) mp_X3_writesNumber (Nat.le_of_ble_eq_true rfl) (Nat.le_of_ble_eq_true rfl) (Nat.le_of_ble_eq_true rfl) (kr_r (fun v9 h9 p9 => ?_)) kx_r
    obtain ⟨rfl, S2, rfl, hW⟩ := p9
    first | refine r_aload_n dX3_tell_96 rfl ?_ | refine r_aload_nq dX3_tell_96 rfl ?_ | refine r_aload_nN dX3_tell_96 rfl ?_
    refine r_getfield 3 7 dX3_tell_97 rfl (Nat.le_of_ble_eq_true rfl) (lkA q1897) (Or.inl rfl) (Or.inl (m_o hi)) (congrArg (fun z => some (Value.int z)) hW.2.2.1) ?_
    exact r_ireturn dX3_tell_100 rfl (by first | rfl | exact bi_nar) (by show if _ then _ else _; rw [if_pos (bi_n0.mp c5)]; exact ⟨rfl, S2, rfl, hW⟩)
  · refine r_bipush (v := (-11)) dX3_tell_8 rfl ?_
    exact r_ireturn dX3_tell_10 rfl (by first | rfl | exact bi_nar) (by show if _ then _ else _; rw [if_neg (fun e => by rw [bi_0.mp c5] at e; cases e)]; exact ⟨rfl, rfl⟩)

set_option maxHeartbeats 4000000 in
set_option maxRecDepth 100000 in
theorem lp_mstreet {G : GG} {A : Nat → Nat} {S : Nat → Nat → Int32} {h : HP} (hi : inj 8 mdom A) (hT : KT G) {ka : Nat → Nat} (hKC : KC G ka) {D : Int} (hI : Inv D (S 0))  : ∀ (n i : Nat) (S2 : Nat → Nat → Int32), i + n = 20 → WL S S2 (txT (S 0) i) → V G 5 M_X3_tellStreet 7 [(1, .int (nI i)), (0, .ref (A 7))] [] (ov (mdH A S2) h) 0 (rQ (fun v h' => v = some (.int (nI (txT (S 0) 20).length)) ∧ ∃ S', h' = ov (mdH A S') h ∧ WL S S' (txT (S 0) 20))) := by
  intro n
  induction n with
  | zero =>
    intro i S2 hin hW
    obtain rfl : i = 20 := by omega
    refine r_iload_n dX3_tellStreet_7 rfl ?_
    refine r_bipush (v := 20) dX3_tellStreet_8 rfl ?_
    refine r_icmp_ge 57 dX3_tellStreet_10 rfl (fun c10 => ?_) (fun c10 => absurd c10 (fun e => e (by rw [Int32.le_iff_toInt_le, nIn (by omega)]; have h9 : (20 : Int32).toInt = 20 := rfl; omega)))
    first | refine r_aload_n dX3_tellStreet_57 rfl ?_ | refine r_aload_nq dX3_tellStreet_57 rfl ?_ | refine r_aload_nN dX3_tellStreet_57 rfl ?_
    refine r_getfield 3 7 dX3_tellStreet_58 rfl (Nat.le_of_ble_eq_true rfl) (lkA q1897) (Or.inl rfl) (Or.inl (m_o hi)) (congrArg (fun z => some (Value.int z)) hW.2.2.1) ?_
    exact r_ireturn dX3_tellStreet_61 rfl (by first | rfl | exact bi_nar) ⟨rfl, S2, rfl, hW⟩
  | succ n ih =>
    intro i S2 hin hW
    have hi2 : i < 20 := by omega
    have hix := nIn (show i < 1000 by omega)
    have hTl := txT_l (w := S 0) (fun m hm => (hI.2.2.2.2.2.2.1 m hm).1.2) i (by omega)
    have hd1 := digs_9 (hI.2.2.2.2.2.2.1 i hi2).1.2
    refine r_iload_n dX3_tellStreet_7 rfl ?_
    refine r_bipush (v := 20) dX3_tellStreet_8 rfl ?_
    refine r_icmp_ge 57 dX3_tellStreet_10 rfl (fun c10 => absurd c10 (by rw [Int32.le_iff_toInt_le, nIn (by omega)]; have h9 : (20 : Int32).toInt = 20 := rfl; omega)) (fun c10 => ?_)
    first | refine r_aload_n dX3_tellStreet_13 rfl ?_ | refine r_aload_nq dX3_tellStreet_13 rfl ?_ | refine r_aload_nN dX3_tellStreet_13 rfl ?_
    first | refine r_aload_n dX3_tellStreet_14 rfl ?_ | refine r_aload_nq dX3_tellStreet_14 rfl ?_ | refine r_aload_nN dX3_tellStreet_14 rfl ?_
    refine r_iload_n dX3_tellStreet_15 rfl ?_
    refine r_invV dX3_tellStreet_16 (sp_X3_temper hi i hix hi2) rfl mo_X3_temper (Or.inl (m_o hi)) rfl (lkA q2023) (lkA q2025) (lkA qs42) rfl (lkA q82) mp_X3_temper (Nat.le_of_ble_eq_true rfl) (Nat.le_of_ble_eq_true rfl) (Nat.le_of_ble_eq_true rfl) (kr_e ?_) kx_e
    rw [hW.1 0 (by decide) (by decide)]
    refine r_invV dX3_tellStreet_19 (sp_X3_writesNumber hi hW (by have := (hI.2.2.2.2.2.2.1 i hi2).1; omega) (by omega)) rfl mo_X3_writesNumber (Or.inl (m_o hi)) rfl (lkA q2174) (lkA q2176) (lkA qs60) rfl (lkA q82) mp_X3_writesNumber (Nat.le_of_ble_eq_true rfl) (Nat.le_of_ble_eq_true rfl) (Nat.le_of_ble_eq_true rfl) (kr_r (fun v9 h9 p9 => ?_)) kx_r
    obtain ⟨rfl, S2, rfl, hW⟩ := p9
    first | refine r_aload_n dX3_tellStreet_22 rfl ?_ | refine r_aload_nq dX3_tellStreet_22 rfl ?_ | refine r_aload_nN dX3_tellStreet_22 rfl ?_
    refine r_iload_n dX3_tellStreet_23 rfl ?_
    refine r_invV dX3_tellStreet_24 (sp_X3_mood hi i hix hi2) rfl mo_X3_mood (Or.inl (m_o hi)) rfl (lkA q1965) (lkA q1967) (lkA qs33) rfl (lkA q82) mp_X3_mood (Nat.le_of_ble_eq_true rfl) (Nat.le_of_ble_eq_true rfl) (Nat.le_of_ble_eq_true rfl) (kr_e ?_) kx_e
    rw [hW.1 0 (by decide) (by decide)]
    refine r_if_lt 51 dX3_tellStreet_27 rfl (fun c27 => ?_) (fun c27 => ?_)
    · refine r_inc 1 dX3_tellStreet_51 rfl rfl (Nat.le_of_ble_eq_true rfl) ?_
      refine r_goto 7 dX3_tellStreet_54 rfl ?_
      refine V_loc (L' := [(1, .int (nI i + 1)), (0, .ref (A 7))]) ⟨rfl, rfl, trivial⟩ ?_
      rw [← nI_succ]
      exact ih (i + 1) S2 (by omega) (by rw [show txT (S 0) (i + 1) = txT (S 0) i ++ (digs (tn (gTm (S 0) i)) ++ (if 7 ≤ gDg (S 0) i then [33] else if gDg (S 0) i = -15 then [] else [100])) from rfl]; rw [show gDg (S 0) i = -15 from if_pos c27, if_neg (by decide), if_pos rfl, List.append_nil]; exact hW)
    · first | refine r_aload_n dX3_tellStreet_30 rfl ?_ | refine r_aload_nq dX3_tellStreet_30 rfl ?_ | refine r_aload_nN dX3_tellStreet_30 rfl ?_
      first | refine r_aload_n dX3_tellStreet_31 rfl ?_ | refine r_aload_nq dX3_tellStreet_31 rfl ?_ | refine r_aload_nN dX3_tellStreet_31 rfl ?_
      refine r_iload_n dX3_tellStreet_32 rfl ?_
      refine r_invV dX3_tellStreet_33 (sp_X3_mood hi i hix hi2) rfl mo_X3_mood (Or.inl (m_o hi)) rfl (lkA q1965) (lkA q1967) (lkA qs33) rfl (lkA q82) mp_X3_mood (Nat.le_of_ble_eq_true rfl) (Nat.le_of_ble_eq_true rfl) (Nat.le_of_ble_eq_true rfl) (kr_e ?_) kx_e
      rw [hW.1 0 (by decide) (by decide)]
      refine r_bipush (v := 7) dX3_tellStreet_36 rfl ?_
      refine r_icmp_lt 46 dX3_tellStreet_38 rfl (fun c38 => ?_) (fun c38 => ?_)
      · refine r_ldcS dX3_tellStreet_46 (show Str G "BrushSellersModel" 233 "d" (ka 9) from hKC.1 40 (Nat.le_of_ble_eq_true rfl)) ?_
        refine r_invV dX3_tellStreet_48 (sp_X3_writes hi hT hKC hW (k := 9) (by decide) (by rw [List.length_append, hd1]; omega)) rfl mo_X3_writes (Or.inl (m_o hi)) rfl (lkA q2170) (lkA q2172) (lkA qs59) rfl (lkA q82) mp_X3_writes (Nat.le_of_ble_eq_true rfl) (Nat.le_of_ble_eq_true rfl) (Nat.le_of_ble_eq_true rfl) (kr_r (fun v9 h9 p9 => ?_)) kx_r
        obtain ⟨rfl, S2, rfl, hW⟩ := p9
        refine r_inc 1 dX3_tellStreet_51 rfl rfl (Nat.le_of_ble_eq_true rfl) ?_
        refine r_goto 7 dX3_tellStreet_54 rfl ?_
        refine V_loc (L' := [(1, .int (nI i + 1)), (0, .ref (A 7))]) ⟨rfl, rfl, trivial⟩ ?_
        rw [← nI_succ]
        exact ih (i + 1) S2 (by omega) (by rw [show txT (S 0) (i + 1) = txT (S 0) i ++ (digs (tn (gTm (S 0) i)) ++ (if 7 ≤ gDg (S 0) i then [33] else if gDg (S 0) i = -15 then [] else [100])) from rfl]; rw [show gDg (S 0) i = gMd (S 0) i from if_neg c27, if_neg (Int32.not_le.mpr c38), if_neg (fun e => c27 (by rw [e]; decide)), ← List.append_assoc]; exact hW)
      · refine r_ldcS dX3_tellStreet_41 (show Str G "BrushSellersModel" 231 "!" (ka 7) from hKC.1 39 (Nat.le_of_ble_eq_true rfl)) ?_
        refine r_goto 48 dX3_tellStreet_43 rfl ?_
        refine r_invV dX3_tellStreet_48 (sp_X3_writes hi hT hKC hW (k := 7) (by decide) (by rw [List.length_append, hd1]; omega)) rfl mo_X3_writes (Or.inl (m_o hi)) rfl (lkA q2170) (lkA q2172) (lkA qs59) rfl (lkA q82) mp_X3_writes (Nat.le_of_ble_eq_true rfl) (Nat.le_of_ble_eq_true rfl) (Nat.le_of_ble_eq_true rfl) (kr_r (fun v9 h9 p9 => ?_)) kx_r
        obtain ⟨rfl, S2, rfl, hW⟩ := p9
        refine r_inc 1 dX3_tellStreet_51 rfl rfl (Nat.le_of_ble_eq_true rfl) ?_
        refine r_goto 7 dX3_tellStreet_54 rfl ?_
        refine V_loc (L' := [(1, .int (nI i + 1)), (0, .ref (A 7))]) ⟨rfl, rfl, trivial⟩ ?_
        rw [← nI_succ]
        exact ih (i + 1) S2 (by omega) (by rw [show txT (S 0) (i + 1) = txT (S 0) i ++ (digs (tn (gTm (S 0) i)) ++ (if 7 ≤ gDg (S 0) i then [33] else if gDg (S 0) i = -15 then [] else [100])) from rfl]; rw [show gDg (S 0) i = gMd (S 0) i from if_neg c27, if_pos (Int32.not_lt.mp c38), ← List.append_assoc]; exact hW)

set_option maxHeartbeats 4000000 in
set_option maxRecDepth 100000 in
theorem sp_X3_tellStreet {G : GG} {A : Nat → Nat} {S : Nat → Nat → Int32} {h : HP} (hi : inj 8 mdom A) (hT : KT G) {ka : Nat → Nat} (hKC : KC G ka) {D : Int} (hI : Inv D (S 0))  : Ct G 5 0 M_X3_tellStreet [.ref (A 7)] (ov (mdH A S) h) ((rQ (fun v h' => v = some (.int (nI (txT (S 0) 20).length)) ∧ ∃ S', h' = ov (mdH A S') h ∧ WL S S' (txT (S 0) 20)))) := by
  refine ct_intro my_X3_tellStreet (Nat.le_of_ble_eq_true rfl) ?_
  first | refine r_aload_n dX3_tellStreet_0 rfl ?_ | refine r_aload_nq dX3_tellStreet_0 rfl ?_ | refine r_aload_nN dX3_tellStreet_0 rfl ?_
  refine r_iconst (v := 0) dX3_tellStreet_1 rfl ?_
  refine r_put 3 7 dX3_tellStreet_2 rfl (Nat.le_of_ble_eq_true rfl) (lkA q1897) (Or.inl rfl) rfl (m_o hi) (by dsimp only [List.set]) (Nat.le_of_ble_eq_true rfl) rfl rfl (m_s2 hi) ?_
  refine r_iconst (v := 0) dX3_tellStreet_5 rfl ?_
  refine r_istore_n dX3_tellStreet_6 (Nat.le_of_ble_eq_true rfl) ?_
  refine V_loc (L' := [(1, .int (nI 0)), (0, .ref (A 7))]) ⟨rfl, rfl, trivial⟩ ?_
  exact lp_mstreet hi hT hKC hI 20 0 _ rfl WL_0

set_option maxHeartbeats 4000000 in
set_option maxRecDepth 100000 in
theorem lp_mmean {G : GG} {A : Nat → Nat} {S : Nat → Nat → Int32} {h : HP} (hi : inj 8 mdom A) (hn : vf_n64 (oMean (S 0))) : ∀ (n i : Nat) (a : Int32), i + n = 20 → a = gTemps (S 0) i → V G 1 M_X3_meanTemper 4 [(2, .int (nI i)), (1, .int a), (0, .ref (A 7))] [] (ov (mdH A S) h) 0 (eQ (some (.double (oMean (S 0)))) (ov (mdH A S) h)) := by
  intro n
  induction n with
  | zero =>
    intro i a hin ha
    obtain rfl : i = 20 := by omega
    refine r_iload_n dX3_meanTemper_4 rfl ?_
    refine r_bipush (v := 20) dX3_meanTemper_5 rfl ?_
    refine r_icmp_ge 24 dX3_meanTemper_7 rfl (fun c7 => ?_) (fun c7 => absurd c7 (fun e => e (by rw [Int32.le_iff_toInt_le, nIn (by omega)]; have h9 : (20 : Int32).toInt = 20 := rfl; omega)))
    refine r_iload_n dX3_meanTemper_24 rfl ?_
    refine r_i2d dX3_meanTemper_25 ?_
    refine r_ldc2d dX3_meanTemper_26 (lkA q2216) ?_
    subst ha
    refine r_ddiv dX3_meanTemper_29 hn ?_
    exact r_dreturn dX3_meanTemper_30 rfl ⟨rfl, rfl⟩
  | succ n ih =>
    intro i a hin ha
    have hi2 : i < 20 := by omega
    have hix := nIn (show i < 1000 by omega)
    refine r_iload_n dX3_meanTemper_4 rfl ?_
    refine r_bipush (v := 20) dX3_meanTemper_5 rfl ?_
    refine r_icmp_ge 24 dX3_meanTemper_7 rfl (fun c7 => absurd c7 (by rw [Int32.le_iff_toInt_le, nIn (by omega)]; have h9 : (20 : Int32).toInt = 20 := rfl; omega)) (fun c7 => ?_)
    refine r_iload_n dX3_meanTemper_10 rfl ?_
    first | refine r_aload_n dX3_meanTemper_11 rfl ?_ | refine r_aload_nq dX3_meanTemper_11 rfl ?_ | refine r_aload_nN dX3_meanTemper_11 rfl ?_
    refine r_iload_n dX3_meanTemper_12 rfl ?_
    refine r_invV dX3_meanTemper_13 (sp_X3_temper hi i hix hi2) rfl mo_X3_temper (Or.inl (m_o hi)) rfl (lkA q2023) (lkA q2025) (lkA qs42) rfl (lkA q82) mp_X3_temper (Nat.le_of_ble_eq_true rfl) (Nat.le_of_ble_eq_true rfl) (Nat.le_of_ble_eq_true rfl) (kr_e ?_) kx_e
    refine r_iadd dX3_meanTemper_16 ?_
    refine r_istore_n dX3_meanTemper_17 (Nat.le_of_ble_eq_true rfl) ?_
    refine r_inc 1 dX3_meanTemper_18 rfl rfl (Nat.le_of_ble_eq_true rfl) ?_
    refine r_goto 4 dX3_meanTemper_21 rfl ?_
    refine V_loc (L' := [(2, .int (nI i + 1)), (1, .int (a + gTm (S 0) i)), (0, .ref (A 7))]) ⟨rfl, rfl, rfl, trivial⟩ ?_
    rw [← nI_succ]
    exact ih (i + 1) _ (by omega) (by rw [ha]; rfl)

set_option maxHeartbeats 4000000 in
set_option maxRecDepth 100000 in
theorem sp_X3_meanTemper {G : GG} {A : Nat → Nat} {S : Nat → Nat → Int32} {h : HP} (hi : inj 8 mdom A) (hn : vf_n64 (oMean (S 0)))  : Ct G 1 0 M_X3_meanTemper [.ref (A 7)] (ov (mdH A S) h) ((eQ (some (.double (oMean (S 0)))) (ov (mdH A S) h))) := by
  refine ct_intro my_X3_meanTemper (Nat.le_of_ble_eq_true rfl) ?_
  refine r_iconst (v := 0) dX3_meanTemper_0 rfl ?_
  refine r_istore_n dX3_meanTemper_1 (Nat.le_of_ble_eq_true rfl) ?_
  refine r_iconst (v := 0) dX3_meanTemper_2 rfl ?_
  refine r_istore_n dX3_meanTemper_3 (Nat.le_of_ble_eq_true rfl) ?_
  refine V_loc (L' := [(2, .int (nI 0)), (1, .int 0), (0, .ref (A 7))]) ⟨rfl, rfl, rfl, trivial⟩ ?_
  exact lp_mmean hi hn 20 0 0 rfl rfl

set_option maxHeartbeats 4000000 in
set_option maxRecDepth 100000 in
theorem sp_X3_backShare {G : GG} {A : Nat → Nat} {S : Nat → Nat → Int32} {h : HP} (hi : inj 8 mdom A) (hn : vf_n32 (oShare (S 0)))  : Ct G 0 0 M_X3_backShare [.ref (A 7)] (ov (mdH A S) h) ((eQ (some (.float (oShare (S 0)))) (ov (mdH A S) h))) := by
  refine ct_intro my_X3_backShare (Nat.le_of_ble_eq_true rfl) ?_
  first | refine r_aload_n dX3_backShare_0 rfl ?_ | refine r_aload_nq dX3_backShare_0 rfl ?_ | refine r_aload_nN dX3_backShare_0 rfl ?_
  refine r_getfield 3 0 dX3_backShare_1 rfl (Nat.le_of_ble_eq_true rfl) (lkA q1890) (Or.inl rfl) (Or.inl (m_o hi)) (by rfl) ?_
  refine r_bipush (v := 6) dX3_backShare_4 rfl ?_
  refine r_iaload (6) dX3_backShare_6 (by first | exact Or.inl (m_a0 hi) | exact Or.inl (m_a1 hi) | exact Or.inl (m_a2 hi) | exact Or.inl (m_a3 hi) | exact Or.inl (m_a4 hi) | exact Or.inl (m_a5 hi) | exact Or.inl (m_a6 hi)) rfl (Nat.le_of_ble_eq_true rfl) rfl ?_
  refine r_if_ne 14 dX3_backShare_7 rfl (fun c7 => ?_) (fun c7 => ?_)
  · first | refine r_aload_n dX3_backShare_14 rfl ?_ | refine r_aload_nq dX3_backShare_14 rfl ?_ | refine r_aload_nN dX3_backShare_14 rfl ?_
    refine r_getfield 3 0 dX3_backShare_15 rfl (Nat.le_of_ble_eq_true rfl) (lkA q1890) (Or.inl rfl) (Or.inl (m_o hi)) (by rfl) ?_
    refine r_bipush (v := 7) dX3_backShare_18 rfl ?_
    refine r_iaload (7) dX3_backShare_20 (by first | exact Or.inl (m_a0 hi) | exact Or.inl (m_a1 hi) | exact Or.inl (m_a2 hi) | exact Or.inl (m_a3 hi) | exact Or.inl (m_a4 hi) | exact Or.inl (m_a5 hi) | exact Or.inl (m_a6 hi)) rfl (Nat.le_of_ble_eq_true rfl) rfl ?_
    refine r_i2f dX3_backShare_21 ?_
    first | refine r_aload_n dX3_backShare_22 rfl ?_ | refine r_aload_nq dX3_backShare_22 rfl ?_ | refine r_aload_nN dX3_backShare_22 rfl ?_
    refine r_getfield 3 0 dX3_backShare_23 rfl (Nat.le_of_ble_eq_true rfl) (lkA q1890) (Or.inl rfl) (Or.inl (m_o hi)) (by rfl) ?_
    refine r_bipush (v := 6) dX3_backShare_26 rfl ?_
    refine r_iaload (6) dX3_backShare_28 (by first | exact Or.inl (m_a0 hi) | exact Or.inl (m_a1 hi) | exact Or.inl (m_a2 hi) | exact Or.inl (m_a3 hi) | exact Or.inl (m_a4 hi) | exact Or.inl (m_a5 hi) | exact Or.inl (m_a6 hi)) rfl (Nat.le_of_ble_eq_true rfl) rfl ?_
    refine r_i2f dX3_backShare_29 ?_
    have hs9 : oShare (S 0) = Jvm.FP.fdiv (Jvm.FP.i2f (S 0 7)) (Jvm.FP.i2f (S 0 6)) := if_neg c7
    rw [hs9] at hn
    refine r_fdiv dX3_backShare_30 hn ?_
    exact r_freturn dX3_backShare_31 rfl ⟨by rw [hs9], rfl⟩
  · refine r_fconst0 dX3_backShare_10 ?_
    refine r_goto 31 dX3_backShare_11 rfl ?_
    exact r_freturn dX3_backShare_31 rfl ⟨by rw [show oShare (S 0) = Jvm.FP.fconst0 from if_pos c7], rfl⟩

