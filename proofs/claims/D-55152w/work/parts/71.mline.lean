set_option maxRecDepth 100000
def apM (A : Nat → Nat) (S : Nat → Nat → Int32) (T : List Int32) (x : Int32) (h : HP) : Oc → HP → Prop := rQ (fun v h' => if isn x 32 126 = true then (if T.length = 60 then v = some (.int (-13)) ∧ h' = ov (mdH A S) h else v = some (.int (nI (T.length + 1))) ∧ h' = ov (mdH A (sa (ss S 3 (nI (T.length + 1))) 5 (upd (S 5) T.length x))) h) else v = some (.int (-12)) ∧ h' = ov (mdH A S) h)
theorem MT_ap {S : Nat → Nat → Int32} {T : List Int32} {x : Int32} (hM : MT S T) (h : ¬ T.length = 60) : MT (sa (ss S 3 (nI (T.length + 1))) 5 (upd (S 5) T.length x)) (T ++ [x]) := by
  refine ⟨?_, by rw [List.length_append]; have := hM.2.1; show T.length + 1 ≤ 60; omega, fun j hj => ?_⟩
  · rw [sa_n (by decide), ss_at, List.length_append]
    rfl
  · rw [List.length_append] at hj
    have hj2 : j < T.length + 1 := hj
    rw [sa_s]
    by_cases e : j < T.length
    · rw [upd_n (by omega), gd_1 e]
      exact hM.2.2 j e
    · obtain rfl : j = T.length := by omega
      rw [upd_s, gd_2 (Nat.le_refl _), Nat.sub_self]
      rfl
set_option maxHeartbeats 4000000 in
set_option maxRecDepth 100000 in
theorem sp_X3_append {G : GG} {A : Nat → Nat} {S : Nat → Nat → Int32} {h : HP} (hi : inj 8 mdom A) {T : List Int32} {x : Int32} (hM : MT S T) : Ct G 1 0 M_X3_append [.ref (A 7), .int x] (ov (mdH A S) h) (apM A S T x h) := by
  refine ct_intro my_X3_append (Nat.le_of_ble_eq_true rfl) ?_
  have hT60 := hM.2.1
  refine r_iload_n dX3_append_0 rfl ?_
  refine r_bipush (v := 32) dX3_append_1 rfl ?_
  refine r_bipush (v := 126) dX3_append_3 rfl ?_
  refine r_invS dX3_append_5 sp_X3_in rfl mo_X3_in (lkA q1947) (lkA q1948) (lkA q82) mp_X3_in (Nat.le_of_ble_eq_true rfl) (Nat.le_of_ble_eq_true rfl) (Nat.le_of_ble_eq_true rfl) (kr_e ?_) kx_e
  refine r_if_ne 14 dX3_append_8 rfl (fun c8 => ?_) (fun c8 => ?_)
  · first | refine r_aload_n dX3_append_14 rfl ?_ | refine r_aload_nq dX3_append_14 rfl ?_ | refine r_aload_nN dX3_append_14 rfl ?_
    refine r_getfield 3 9 dX3_append_15 rfl (Nat.le_of_ble_eq_true rfl) (lkA q1899) (Or.inl rfl) (Or.inl (m_o hi)) (congrArg (fun z => some (Value.int z)) hM.1) ?_
    refine r_bipush (v := 60) dX3_append_18 rfl ?_
    refine r_icmp_ne 26 dX3_append_20 rfl (fun c20 => ?_) (fun c20 => ?_)
    · first | refine r_aload_n dX3_append_26 rfl ?_ | refine r_aload_nq dX3_append_26 rfl ?_ | refine r_aload_nN dX3_append_26 rfl ?_
      refine r_getfield 3 8 dX3_append_27 rfl (Nat.le_of_ble_eq_true rfl) (lkA q1898) (Or.inl rfl) (Or.inl (m_o hi)) (by rfl) ?_
      first | refine r_aload_n dX3_append_30 rfl ?_ | refine r_aload_nq dX3_append_30 rfl ?_ | refine r_aload_nN dX3_append_30 rfl ?_
      refine r_dup dX3_append_31 rfl ?_
      refine r_getfield 3 9 dX3_append_32 rfl (Nat.le_of_ble_eq_true rfl) (lkA q1899) (Or.inl rfl) (Or.inl (m_o hi)) (congrArg (fun z => some (Value.int z)) hM.1) ?_
      refine r_dup_x1 dX3_append_35 rfl rfl ?_
      refine r_iconst (v := 1) dX3_append_36 rfl ?_
      refine r_iadd dX3_append_37 ?_
      refine r_put 3 9 dX3_append_38 rfl (Nat.le_of_ble_eq_true rfl) (lkA q1899) (Or.inl rfl) rfl (m_o hi) (by dsimp only [List.set]) (Nat.le_of_ble_eq_true rfl) rfl rfl (m_s3 hi) ?_
      rw [← nI_succ]
      have hl9 : ¬ T.length = 60 := fun e => c20 (by rw [e]; rfl)
      refine r_iload_n dX3_append_41 rfl ?_
      refine r_iastore (T.length) dX3_append_42 (m_a5 hi) (nIn (by omega)) (by omega) ?_
      rw [m_w5 hi]
      first | refine r_aload_n dX3_append_43 rfl ?_ | refine r_aload_nq dX3_append_43 rfl ?_ | refine r_aload_nN dX3_append_43 rfl ?_
      refine r_getfield 3 9 dX3_append_44 rfl (Nat.le_of_ble_eq_true rfl) (lkA q1899) (Or.inl rfl) (Or.inl (m_o hi)) (congrArg (fun z => some (Value.int z)) (show ss S 3 (nI (T.length + 1)) 7 3 = _ from ss_at)) ?_
      exact r_ireturn dX3_append_47 rfl (by first | rfl | exact bi_nar) (by show if _ then _ else _; rw [if_pos (bi_n0.mp c8), if_neg hl9]; exact ⟨rfl, rfl⟩)
    · refine r_bipush (v := (-13)) dX3_append_23 rfl ?_
      exact r_ireturn dX3_append_25 rfl (by first | rfl | exact bi_nar) (by show if _ then _ else _; rw [if_pos (bi_n0.mp c8), if_pos (by rw [show (60 : Int32) = nI 60 from rfl, nJ_eq (by omega) (by omega)] at c20; omega)]; exact ⟨rfl, rfl⟩)
  · refine r_bipush (v := (-12)) dX3_append_11 rfl ?_
    exact r_ireturn dX3_append_13 rfl (by first | rfl | exact bi_nar) (by show if _ then _ else _; rw [if_neg (fun e => by rw [bi_0.mp c8] at e; cases e)]; exact ⟨rfl, rfl⟩)

/-- the line of the reference -/
def ML (S : Nat → Nat → Int32) (l : List Int32) : Prop := S 7 2 = nI l.length ∧ l.length ≤ 60 ∧ ∀ j, j < l.length → S 4 j = l.getD j 0
/-- what writing a line leaves alone -/
def WL (S0 S : Nat → Nat → Int32) (l : List Int32) : Prop := (∀ i, i ≠ 4 → i ≠ 7 → S i = S0 i) ∧ (∀ j, j ≠ 2 → S 7 j = S0 7 j) ∧ ML S l
theorem WL_put {S0 S : Nat → Nat → Int32} {l : List Int32} {x : Int32} (hW : WL S0 S l) (h : l.length < 60) : WL S0 (sa (ss S 2 (nI (l.length + 1))) 4 (upd (S 4) l.length x)) (l ++ [x]) := by
  obtain ⟨h1, h2, h3, h4, h5⟩ := hW
  refine ⟨fun i h4' h7 => by rw [sa_n h4', ss_ar h7]; exact h1 i h4' h7, fun j hj => by rw [sa_n (by decide), ss_o hj]; exact h2 j hj, ?_, by rw [List.length_append]; show l.length + 1 ≤ 60; omega, fun j hj => ?_⟩
  · rw [sa_n (by decide), ss_at, List.length_append]
    rfl
  · rw [List.length_append] at hj
    have hj2 : j < l.length + 1 := hj
    rw [sa_s]
    by_cases e : j < l.length
    · rw [upd_n (by omega), gd_1 e]
      exact h5 j e
    · obtain rfl : j = l.length := by omega
      rw [upd_s, gd_2 (Nat.le_refl _), Nat.sub_self]
      rfl
def wlQ (A : Nat → Nat) (S0 : Nat → Nat → Int32) (h : HP) (l : List Int32) : Oc → HP → Prop := rQ (fun v h' => v = none ∧ ∃ S', h' = ov (mdH A S') h ∧ WL S0 S' l)
set_option maxHeartbeats 4000000 in
set_option maxRecDepth 100000 in
theorem sp_X3_character {G : GG} {A : Nat → Nat} {S : Nat → Nat → Int32} {h : HP} (hi : inj 8 mdom A) {l : List Int32} {x : Int32} (hL : ML S l) : Ct G 1 0 M_X3_character [.ref (A 7), .int x] (ov (mdH A S) h) (eQ (some (.int (chA l x))) (ov (mdH A S) h)) := by
  refine ct_intro my_X3_character (Nat.le_of_ble_eq_true rfl) ?_
  have hl60 := hL.2.1
  refine r_iload_n dX3_character_0 rfl ?_
  refine r_iconst (v := 0) dX3_character_1 rfl ?_
  first | refine r_aload_n dX3_character_2 rfl ?_ | refine r_aload_nq dX3_character_2 rfl ?_ | refine r_aload_nN dX3_character_2 rfl ?_
  refine r_getfield 3 7 dX3_character_3 rfl (Nat.le_of_ble_eq_true rfl) (lkA q1897) (Or.inl rfl) (Or.inl (m_o hi)) (congrArg (fun z => some (Value.int z)) hL.1) ?_
  refine r_iconst (v := 1) dX3_character_6 rfl ?_
  refine r_isub dX3_character_7 ?_
  refine r_invS dX3_character_8 sp_X3_in rfl mo_X3_in (lkA q1947) (lkA q1948) (lkA q82) mp_X3_in (Nat.le_of_ble_eq_true rfl) (Nat.le_of_ble_eq_true rfl) (Nat.le_of_ble_eq_true rfl) (kr_e ?_) kx_e
  refine r_if_eq 23 dX3_character_11 rfl (fun c11 => ?_) (fun c11 => ?_)
  · refine r_bipush (v := (-11)) dX3_character_23 rfl ?_
    exact r_ireturn dX3_character_25 rfl (by first | rfl | exact bi_nar) ⟨congrArg (fun z => some (Value.int z)) (by unfold chA; rw [if_neg (fun e => by rw [(chA_i (by omega)).mpr e] at c11; exact absurd c11 (by decide))]), rfl⟩
  · first | refine r_aload_n dX3_character_14 rfl ?_ | refine r_aload_nq dX3_character_14 rfl ?_ | refine r_aload_nN dX3_character_14 rfl ?_
    refine r_getfield 3 6 dX3_character_15 rfl (Nat.le_of_ble_eq_true rfl) (lkA q1896) (Or.inl rfl) (Or.inl (m_o hi)) (by rfl) ?_
    refine r_iload_n dX3_character_18 rfl ?_
    have hi9 := (chA_i (by omega)).mp (bi_n0.mp c11)
    refine r_iaload (tn x) dX3_character_19 (by first | exact Or.inl (m_a0 hi) | exact Or.inl (m_a1 hi) | exact Or.inl (m_a2 hi) | exact Or.inl (m_a3 hi) | exact Or.inl (m_a4 hi) | exact Or.inl (m_a5 hi) | exact Or.inl (m_a6 hi)) (by unfold tn; omega) (by unfold tn; omega) rfl ?_
    refine r_goto 25 dX3_character_20 rfl ?_
    exact r_ireturn dX3_character_25 rfl (by first | rfl | exact bi_nar) ⟨congrArg (fun z => some (Value.int z)) (by unfold chA; rw [if_pos hi9]; exact hL.2.2 _ (by unfold tn; omega)), rfl⟩

set_option maxHeartbeats 4000000 in
set_option maxRecDepth 100000 in
theorem sp_X3_reason {G : GG} {A : Nat → Nat} {S : Nat → Nat → Int32} {h : HP} (hi : inj 8 mdom A) {b : Int32} : Ct G 0 0 M_X3_reason [.ref (A 7), .int b] (ov (mdH A S) h) (eQ (some (.int (oReason (S 7 6) (S 7 7) b))) (ov (mdH A S) h)) := by
  refine ct_intro my_X3_reason (Nat.le_of_ble_eq_true rfl) ?_
  first | refine r_aload_n dX3_reason_0 rfl ?_ | refine r_aload_nq dX3_reason_0 rfl ?_ | refine r_aload_nN dX3_reason_0 rfl ?_
  refine r_getfield 3 13 dX3_reason_1 rfl (Nat.le_of_ble_eq_true rfl) (lkA q1903) (Or.inl rfl) (Or.inl (m_o hi)) (by rfl) ?_
  refine r_if_ne 12 dX3_reason_4 rfl (fun c4 => ?_) (fun c4 => ?_)
  · refine r_iload_n dX3_reason_12 rfl ?_
    refine r_if_eq 23 dX3_reason_13 rfl (fun c13 => ?_) (fun c13 => ?_)
    · first | refine r_aload_n dX3_reason_23 rfl ?_ | refine r_aload_nq dX3_reason_23 rfl ?_ | refine r_aload_nN dX3_reason_23 rfl ?_
      refine r_getfield 3 13 dX3_reason_24 rfl (Nat.le_of_ble_eq_true rfl) (lkA q1903) (Or.inl rfl) (Or.inl (m_o hi)) (by rfl) ?_
      exact r_ireturn dX3_reason_27 rfl (by first | rfl | exact bi_nar) ⟨congrArg (fun z => some (Value.int z)) (by unfold oReason; rw [if_neg c4, if_pos c13]), rfl⟩
    · first | refine r_aload_n dX3_reason_16 rfl ?_ | refine r_aload_nq dX3_reason_16 rfl ?_ | refine r_aload_nN dX3_reason_16 rfl ?_
      refine r_getfield 3 14 dX3_reason_17 rfl (Nat.le_of_ble_eq_true rfl) (lkA q1904) (Or.inl rfl) (Or.inl (m_o hi)) (by rfl) ?_
      refine r_goto 27 dX3_reason_20 rfl ?_
      exact r_ireturn dX3_reason_27 rfl (by first | rfl | exact bi_nar) ⟨congrArg (fun z => some (Value.int z)) (by unfold oReason; rw [if_neg c4, if_neg c13]), rfl⟩
  · refine r_bipush (v := (-15)) dX3_reason_7 rfl ?_
    refine r_goto 27 dX3_reason_9 rfl ?_
    exact r_ireturn dX3_reason_27 rfl (by first | rfl | exact bi_nar) ⟨congrArg (fun z => some (Value.int z)) (by unfold oReason; rw [if_pos c4]), rfl⟩

set_option maxHeartbeats 4000000 in
set_option maxRecDepth 100000 in
theorem lp_writes {G : GG} {A : Nat → Nat} {h : HP} (hi : inj 8 mdom A) (hT : KT G) {ka : Nat → Nat} (hKC : KC G ka) {S0 : Nat → Nat → Int32} {k : Nat} (hk20 : k < 20) (hk6 : (kch k).length ≤ 6) : ∀ (n i : Nat) (l : List Int32) (S : Nat → Nat → Int32), i + n = (kch k).length → WL S0 S l → l.length + n ≤ 60 → V G 4 M_X3_writes 2 [(2, .int (nI i)), (1, .ref (ka k)), (0, .ref (A 7))] [] (ov (mdH A S) h) 0 (wlQ A S0 h (l ++ (kch k).drop i)) := by
  intro n
  induction n with
  | zero =>
    intro i l S hin hW hl
    obtain ⟨fs9, ho9⟩ := ST_obj (ST_k hKC (ov (mdH A S) h) k hk20)
    refine r_iload_n dX3_writes_2 rfl ?_
    first | refine r_aload_n dX3_writes_3 rfl ?_ | refine r_aload_nq dX3_writes_3 rfl ?_ | refine r_aload_nN dX3_writes_3 rfl ?_
    refine r_invV dX3_writes_4 (sp_ST_length hT (ST_k hKC _ k hk20)) rfl mo_J12_length ho9 rfl (lkA q2136) (lkA q721) (lkA q722) rfl (lkA q80) mp_J12_length (Nat.le_of_ble_eq_true rfl) (Nat.le_of_ble_eq_true rfl) (Nat.le_of_ble_eq_true rfl) (kr_e ?_) kx_e
    refine r_icmp_ge 37 dX3_writes_7 rfl (fun c7 => ?_) (fun c7 => absurd c7 (fun e => e ((nJ_le (by omega) (by omega)).mpr (by omega))))
    exact r_return dX3_writes_37 rfl ⟨rfl, S, rfl, by rw [List.drop_eq_nil_of_le (by omega), List.append_nil]; exact hW⟩
  | succ n ih =>
    intro i l S hin hW hl
    have hiL : i < (kch k).length := by omega
    obtain ⟨fs9, ho9⟩ := ST_obj (ST_k hKC (ov (mdH A S) h) k hk20)
    refine r_iload_n dX3_writes_2 rfl ?_
    first | refine r_aload_n dX3_writes_3 rfl ?_ | refine r_aload_nq dX3_writes_3 rfl ?_ | refine r_aload_nN dX3_writes_3 rfl ?_
    refine r_invV dX3_writes_4 (sp_ST_length hT (ST_k hKC _ k hk20)) rfl mo_J12_length ho9 rfl (lkA q2136) (lkA q721) (lkA q722) rfl (lkA q80) mp_J12_length (Nat.le_of_ble_eq_true rfl) (Nat.le_of_ble_eq_true rfl) (Nat.le_of_ble_eq_true rfl) (kr_e ?_) kx_e
    refine r_icmp_ge 37 dX3_writes_7 rfl (fun c7 => absurd c7 (fun e => by have := (nJ_le (by omega) (by omega)).mp e; omega)) (fun c7 => ?_)
    first | refine r_aload_n dX3_writes_10 rfl ?_ | refine r_aload_nq dX3_writes_10 rfl ?_ | refine r_aload_nN dX3_writes_10 rfl ?_
    refine r_getfield 3 6 dX3_writes_11 rfl (Nat.le_of_ble_eq_true rfl) (lkA q1896) (Or.inl rfl) (Or.inl (m_o hi)) (by rfl) ?_
    first | refine r_aload_n dX3_writes_14 rfl ?_ | refine r_aload_nq dX3_writes_14 rfl ?_ | refine r_aload_nN dX3_writes_14 rfl ?_
    refine r_dup dX3_writes_15 rfl ?_
    refine r_getfield 3 7 dX3_writes_16 rfl (Nat.le_of_ble_eq_true rfl) (lkA q1897) (Or.inl rfl) (Or.inl (m_o hi)) (congrArg (fun z => some (Value.int z)) hW.2.2.1) ?_
    refine r_dup_x1 dX3_writes_19 rfl rfl ?_
    refine r_iconst (v := 1) dX3_writes_20 rfl ?_
    refine r_iadd dX3_writes_21 ?_
    refine r_put 3 7 dX3_writes_22 rfl (Nat.le_of_ble_eq_true rfl) (lkA q1897) (Or.inl rfl) rfl (m_o hi) (by dsimp only [List.set]) (Nat.le_of_ble_eq_true rfl) rfl rfl (m_s2 hi) ?_
    rw [← nI_succ]
    obtain ⟨fs8, ho8⟩ := ST_obj (ST_k hKC (ov (mdH A (ss S 2 (nI (l.length + 1)))) h) k hk20)
    first | refine r_aload_n dX3_writes_25 rfl ?_ | refine r_aload_nq dX3_writes_25 rfl ?_ | refine r_aload_nN dX3_writes_25 rfl ?_
    refine r_iload_n dX3_writes_26 rfl ?_
    refine r_invV dX3_writes_27 (sp_ST_charAt hT (ST_k hKC _ k hk20) (nIn (show i < 1000 by omega)) (by omega)) rfl mo_J12_charAt ho8 rfl (lkA q2137) (lkA q1518) (lkA q2248) rfl (lkA q80) mp_J12_charAt (Nat.le_of_ble_eq_true rfl) (Nat.le_of_ble_eq_true rfl) (Nat.le_of_ble_eq_true rfl) (kr_e ?_) kx_e
    refine r_iastore (l.length) dX3_writes_30 (m_a4 hi) (nIn (by omega)) (by omega) ?_
    rw [m_w4 hi]
    refine r_inc 1 dX3_writes_31 rfl rfl (Nat.le_of_ble_eq_true rfl) ?_
    refine r_goto 2 dX3_writes_34 rfl ?_
    refine V_loc (L' := [(2, .int (nI i + 1)), (1, .ref (ka k)), (0, .ref (A 7))]) ⟨rfl, rfl, rfl, trivial⟩ ?_
    rw [← nI_succ]
    have := ih (i + 1) (l ++ [(kch k).getD i 0]) _ (by omega) (WL_put hW (by omega)) (by rw [List.length_append]; show l.length + 1 + n ≤ 60; omega)
    rw [List.append_assoc] at this
    rw [show (kch k).drop i = [(kch k).getD i 0] ++ (kch k).drop (i + 1) by rw [List.drop_eq_getElem_cons hiL, List.getD_eq_getElem?_getD, List.getElem?_eq_getElem hiL]; rfl]
    exact this

set_option maxHeartbeats 4000000 in
set_option maxRecDepth 100000 in
theorem sp_X3_writes {G : GG} {A : Nat → Nat} {S : Nat → Nat → Int32} {h : HP} (hi : inj 8 mdom A) (hT : KT G) {ka : Nat → Nat} (hKC : KC G ka) {S0 : Nat → Nat → Int32} {l : List Int32} (hW : WL S0 S l) {k : Nat} (hk20 : k < 20) (hl : l.length + 6 ≤ 60) : Ct G 4 0 M_X3_writes [.ref (A 7), .ref (ka k)] (ov (mdH A S) h) (wlQ A S0 h (l ++ kch k)) := by
  refine ct_intro my_X3_writes (Nat.le_of_ble_eq_true rfl) ?_
  refine r_iconst (v := 0) dX3_writes_0 rfl ?_
  refine r_istore_n dX3_writes_1 (Nat.le_of_ble_eq_true rfl) ?_
  refine V_loc (L' := [(2, .int (nI 0)), (1, .ref (ka k)), (0, .ref (A 7))]) ⟨rfl, rfl, rfl, trivial⟩ ?_
  have hk6 := kch_l k hk20
  exact lp_writes hi hT hKC hk20 hk6 (kch k).length 0 l S (by omega) hW (by omega)

theorem dv10 {v : Nat} (h : v ≤ 100) : nI v / 10 = nI (v / 10) ∧ 48 + (nI v - nI v / 10 * 10) = 48 + nI (v % 10) := by
  have := allB_at (n := 101) (p := fun v => decide (nI v / 10 = nI (v / 10) ∧ 48 + (nI v - nI v / 10 * 10) = 48 + nI (v % 10))) (by decide +kernel) v (by omega)
  exact of_decide_eq_true this
set_option maxHeartbeats 4000000 in
set_option maxRecDepth 100000 in
theorem sp_wn_1 {G : GG} {A : Nat → Nat} {S : Nat → Nat → Int32} {h : HP} (hi : inj 8 mdom A) {S0 : Nat → Nat → Int32} {l : List Int32} (hW : WL S0 S l) {v : Nat} (hv : v < 10) (hl : l.length + 1 ≤ 60) : Ct G 0 0 M_X3_writesNumber [.ref (A 7), .int (nI v)] (ov (mdH A S) h) (wlQ A S0 h (l ++ digs v)) := by
  refine ct_intro my_X3_writesNumber (Nat.le_of_ble_eq_true rfl) ?_
  refine r_iload_n dX3_writesNumber_0 rfl ?_
  refine r_bipush (v := 9) dX3_writesNumber_1 rfl ?_
  refine r_icmp_le 14 dX3_writesNumber_3 rfl (fun c3 => ?_) (fun c3 => absurd c3 (fun e => e (by rw [Int32.le_iff_toInt_le, nIn (by omega)]; have h9 : (9 : Int32).toInt = 9 := rfl; omega)))
  first | refine r_aload_n dX3_writesNumber_14 rfl ?_ | refine r_aload_nq dX3_writesNumber_14 rfl ?_ | refine r_aload_nN dX3_writesNumber_14 rfl ?_
  refine r_getfield 3 6 dX3_writesNumber_15 rfl (Nat.le_of_ble_eq_true rfl) (lkA q1896) (Or.inl rfl) (Or.inl (m_o hi)) (by rfl) ?_
  first | refine r_aload_n dX3_writesNumber_18 rfl ?_ | refine r_aload_nq dX3_writesNumber_18 rfl ?_ | refine r_aload_nN dX3_writesNumber_18 rfl ?_
  refine r_dup dX3_writesNumber_19 rfl ?_
  refine r_getfield 3 7 dX3_writesNumber_20 rfl (Nat.le_of_ble_eq_true rfl) (lkA q1897) (Or.inl rfl) (Or.inl (m_o hi)) (congrArg (fun z => some (Value.int z)) hW.2.2.1) ?_
  refine r_dup_x1 dX3_writesNumber_23 rfl rfl ?_
  refine r_iconst (v := 1) dX3_writesNumber_24 rfl ?_
  refine r_iadd dX3_writesNumber_25 ?_
  refine r_put 3 7 dX3_writesNumber_26 rfl (Nat.le_of_ble_eq_true rfl) (lkA q1897) (Or.inl rfl) rfl (m_o hi) (by dsimp only [List.set]) (Nat.le_of_ble_eq_true rfl) rfl rfl (m_s2 hi) ?_
  rw [← nI_succ]
  refine r_bipush (v := 48) dX3_writesNumber_29 rfl ?_
  refine r_iload_n dX3_writesNumber_31 rfl ?_
  refine r_bipush (v := 10) dX3_writesNumber_32 rfl ?_
  refine r_irem dX3_writesNumber_34 (by decide) ?_
  refine r_iadd dX3_writesNumber_35 ?_
  rw [(dv10 (by omega)).2]
  refine r_iastore (l.length) dX3_writesNumber_36 (m_a4 hi) (nIn (by omega)) (by omega) ?_
  rw [m_w4 hi]
  exact r_return dX3_writesNumber_37 rfl ⟨rfl, _, rfl, by rw [digs_1 hv, ← Nat.mod_eq_of_lt hv]; rw [Nat.mod_mod]; exact WL_put hW (by omega)⟩

set_option maxHeartbeats 4000000 in
set_option maxRecDepth 100000 in
theorem sp_wn_1d {G : GG} {A : Nat → Nat} {S : Nat → Nat → Int32} {h : HP} (hi : inj 8 mdom A) {S0 : Nat → Nat → Int32} {l : List Int32} (hW : WL S0 S l) {v : Nat} (hv : v < 10) (hl : l.length + 1 ≤ 60) : Ct G 2 0 M_X3_writesNumber [.ref (A 7), .int (nI v)] (ov (mdH A S) h) (wlQ A S0 h (l ++ digs v)) := by
  refine ct_intro my_X3_writesNumber (Nat.le_of_ble_eq_true rfl) ?_
  refine r_iload_n dX3_writesNumber_0 rfl ?_
  refine r_bipush (v := 9) dX3_writesNumber_1 rfl ?_
  refine r_icmp_le 14 dX3_writesNumber_3 rfl (fun c3 => ?_) (fun c3 => absurd c3 (fun e => e (by rw [Int32.le_iff_toInt_le, nIn (by omega)]; have h9 : (9 : Int32).toInt = 9 := rfl; omega)))
  first | refine r_aload_n dX3_writesNumber_14 rfl ?_ | refine r_aload_nq dX3_writesNumber_14 rfl ?_ | refine r_aload_nN dX3_writesNumber_14 rfl ?_
  refine r_getfield 3 6 dX3_writesNumber_15 rfl (Nat.le_of_ble_eq_true rfl) (lkA q1896) (Or.inl rfl) (Or.inl (m_o hi)) (by rfl) ?_
  first | refine r_aload_n dX3_writesNumber_18 rfl ?_ | refine r_aload_nq dX3_writesNumber_18 rfl ?_ | refine r_aload_nN dX3_writesNumber_18 rfl ?_
  refine r_dup dX3_writesNumber_19 rfl ?_
  refine r_getfield 3 7 dX3_writesNumber_20 rfl (Nat.le_of_ble_eq_true rfl) (lkA q1897) (Or.inl rfl) (Or.inl (m_o hi)) (congrArg (fun z => some (Value.int z)) hW.2.2.1) ?_
  refine r_dup_x1 dX3_writesNumber_23 rfl rfl ?_
  refine r_iconst (v := 1) dX3_writesNumber_24 rfl ?_
  refine r_iadd dX3_writesNumber_25 ?_
  refine r_put 3 7 dX3_writesNumber_26 rfl (Nat.le_of_ble_eq_true rfl) (lkA q1897) (Or.inl rfl) rfl (m_o hi) (by dsimp only [List.set]) (Nat.le_of_ble_eq_true rfl) rfl rfl (m_s2 hi) ?_
  rw [← nI_succ]
  refine r_bipush (v := 48) dX3_writesNumber_29 rfl ?_
  refine r_iload_n dX3_writesNumber_31 rfl ?_
  refine r_bipush (v := 10) dX3_writesNumber_32 rfl ?_
  refine r_irem dX3_writesNumber_34 (by decide) ?_
  refine r_iadd dX3_writesNumber_35 ?_
  rw [(dv10 (by omega)).2]
  refine r_iastore (l.length) dX3_writesNumber_36 (m_a4 hi) (nIn (by omega)) (by omega) ?_
  rw [m_w4 hi]
  exact r_return dX3_writesNumber_37 rfl ⟨rfl, _, rfl, by rw [digs_1 hv, ← Nat.mod_eq_of_lt hv]; rw [Nat.mod_mod]; exact WL_put hW (by omega)⟩

set_option maxHeartbeats 4000000 in
set_option maxRecDepth 100000 in
theorem sp_wn_2 {G : GG} {A : Nat → Nat} {S : Nat → Nat → Int32} {h : HP} (hi : inj 8 mdom A) {S0 : Nat → Nat → Int32} {l : List Int32} (hW : WL S0 S l) {v : Nat} (h1 : 10 ≤ v) (hv9 : v < 100) (hl : l.length + 2 ≤ 60) : Ct G 1 0 M_X3_writesNumber [.ref (A 7), .int (nI v)] (ov (mdH A S) h) (wlQ A S0 h (l ++ digs v)) := by
  refine ct_intro my_X3_writesNumber (Nat.le_of_ble_eq_true rfl) ?_
  refine r_iload_n dX3_writesNumber_0 rfl ?_
  refine r_bipush (v := 9) dX3_writesNumber_1 rfl ?_
  refine r_icmp_le 14 dX3_writesNumber_3 rfl (fun c3 => absurd c3 (by rw [Int32.le_iff_toInt_le, nIn (by omega)]; have h9 : (9 : Int32).toInt = 9 := rfl; omega)) (fun c3 => ?_)
  first | refine r_aload_n dX3_writesNumber_6 rfl ?_ | refine r_aload_nq dX3_writesNumber_6 rfl ?_ | refine r_aload_nN dX3_writesNumber_6 rfl ?_
  refine r_iload_n dX3_writesNumber_7 rfl ?_
  refine r_bipush (v := 10) dX3_writesNumber_8 rfl ?_
  refine r_idiv dX3_writesNumber_10 (by decide) ?_
  rw [(dv10 (by omega)).1]
  refine r_invV dX3_writesNumber_11 (sp_wn_1 hi hW (v := v / 10) (by omega) (by omega)) rfl mo_X3_writesNumber (Or.inl (m_o hi)) rfl (lkA q2174) (lkA q2176) (lkA qs60) rfl (lkA q82) mp_X3_writesNumber (Nat.le_of_ble_eq_true rfl) (Nat.le_of_ble_eq_true rfl) (Nat.le_of_ble_eq_true rfl) (kr_r (fun v9 h9 p9 => ?_)) kx_r
  obtain ⟨rfl, S2, rfl, hW2⟩ := p9
  have hl2 : (l ++ digs (v / 10)).length = l.length + 1 := by
    rw [List.length_append]
    exact congrArg (l.length + ·) (by rw [digs_1 (by omega)]; rfl)
  first | refine r_aload_n dX3_writesNumber_14 rfl ?_ | refine r_aload_nq dX3_writesNumber_14 rfl ?_ | refine r_aload_nN dX3_writesNumber_14 rfl ?_
  refine r_getfield 3 6 dX3_writesNumber_15 rfl (Nat.le_of_ble_eq_true rfl) (lkA q1896) (Or.inl rfl) (Or.inl (m_o hi)) (by rfl) ?_
  first | refine r_aload_n dX3_writesNumber_18 rfl ?_ | refine r_aload_nq dX3_writesNumber_18 rfl ?_ | refine r_aload_nN dX3_writesNumber_18 rfl ?_
  refine r_dup dX3_writesNumber_19 rfl ?_
  refine r_getfield 3 7 dX3_writesNumber_20 rfl (Nat.le_of_ble_eq_true rfl) (lkA q1897) (Or.inl rfl) (Or.inl (m_o hi)) (congrArg (fun z => some (Value.int z)) hW2.2.2.1) ?_
  refine r_dup_x1 dX3_writesNumber_23 rfl rfl ?_
  refine r_iconst (v := 1) dX3_writesNumber_24 rfl ?_
  refine r_iadd dX3_writesNumber_25 ?_
  refine r_put 3 7 dX3_writesNumber_26 rfl (Nat.le_of_ble_eq_true rfl) (lkA q1897) (Or.inl rfl) rfl (m_o hi) (by dsimp only [List.set]) (Nat.le_of_ble_eq_true rfl) rfl rfl (m_s2 hi) ?_
  rw [← nI_succ]
  refine r_bipush (v := 48) dX3_writesNumber_29 rfl ?_
  refine r_iload_n dX3_writesNumber_31 rfl ?_
  refine r_bipush (v := 10) dX3_writesNumber_32 rfl ?_
  refine r_irem dX3_writesNumber_34 (by decide) ?_
  refine r_iadd dX3_writesNumber_35 ?_
  rw [(dv10 (by omega)).2]
  refine r_iastore ((l ++ digs (v / 10)).length) dX3_writesNumber_36 (m_a4 hi) (nIn (by omega)) (by omega) ?_
  rw [m_w4 hi]
  exact r_return dX3_writesNumber_37 rfl ⟨rfl, _, rfl, by rw [digs_2 h1 hv9, show ([48 + nI (v / 10), 48 + nI (v % 10)] : List Int32) = digs (v / 10) ++ [48 + nI (v % 10)] by rw [digs_1 (by omega)]; rfl, ← List.append_assoc]; exact WL_put hW2 (by omega)⟩

set_option maxHeartbeats 4000000 in
set_option maxRecDepth 100000 in
theorem sp_wn_2d {G : GG} {A : Nat → Nat} {S : Nat → Nat → Int32} {h : HP} (hi : inj 8 mdom A) {S0 : Nat → Nat → Int32} {l : List Int32} (hW : WL S0 S l) {v : Nat} (h1 : 10 ≤ v) (hv9 : v < 100) (hl : l.length + 2 ≤ 60) : Ct G 2 0 M_X3_writesNumber [.ref (A 7), .int (nI v)] (ov (mdH A S) h) (wlQ A S0 h (l ++ digs v)) := by
  refine ct_intro my_X3_writesNumber (Nat.le_of_ble_eq_true rfl) ?_
  refine r_iload_n dX3_writesNumber_0 rfl ?_
  refine r_bipush (v := 9) dX3_writesNumber_1 rfl ?_
  refine r_icmp_le 14 dX3_writesNumber_3 rfl (fun c3 => absurd c3 (by rw [Int32.le_iff_toInt_le, nIn (by omega)]; have h9 : (9 : Int32).toInt = 9 := rfl; omega)) (fun c3 => ?_)
  first | refine r_aload_n dX3_writesNumber_6 rfl ?_ | refine r_aload_nq dX3_writesNumber_6 rfl ?_ | refine r_aload_nN dX3_writesNumber_6 rfl ?_
  refine r_iload_n dX3_writesNumber_7 rfl ?_
  refine r_bipush (v := 10) dX3_writesNumber_8 rfl ?_
  refine r_idiv dX3_writesNumber_10 (by decide) ?_
  rw [(dv10 (by omega)).1]
  refine r_invV dX3_writesNumber_11 (sp_wn_1 hi hW (v := v / 10) (by omega) (by omega)) rfl mo_X3_writesNumber (Or.inl (m_o hi)) rfl (lkA q2174) (lkA q2176) (lkA qs60) rfl (lkA q82) mp_X3_writesNumber (Nat.le_of_ble_eq_true rfl) (Nat.le_of_ble_eq_true rfl) (Nat.le_of_ble_eq_true rfl) (kr_r (fun v9 h9 p9 => ?_)) kx_r
  obtain ⟨rfl, S2, rfl, hW2⟩ := p9
  have hl2 : (l ++ digs (v / 10)).length = l.length + 1 := by
    rw [List.length_append]
    exact congrArg (l.length + ·) (by rw [digs_1 (by omega)]; rfl)
  first | refine r_aload_n dX3_writesNumber_14 rfl ?_ | refine r_aload_nq dX3_writesNumber_14 rfl ?_ | refine r_aload_nN dX3_writesNumber_14 rfl ?_
  refine r_getfield 3 6 dX3_writesNumber_15 rfl (Nat.le_of_ble_eq_true rfl) (lkA q1896) (Or.inl rfl) (Or.inl (m_o hi)) (by rfl) ?_
  first | refine r_aload_n dX3_writesNumber_18 rfl ?_ | refine r_aload_nq dX3_writesNumber_18 rfl ?_ | refine r_aload_nN dX3_writesNumber_18 rfl ?_
  refine r_dup dX3_writesNumber_19 rfl ?_
  refine r_getfield 3 7 dX3_writesNumber_20 rfl (Nat.le_of_ble_eq_true rfl) (lkA q1897) (Or.inl rfl) (Or.inl (m_o hi)) (congrArg (fun z => some (Value.int z)) hW2.2.2.1) ?_
  refine r_dup_x1 dX3_writesNumber_23 rfl rfl ?_
  refine r_iconst (v := 1) dX3_writesNumber_24 rfl ?_
  refine r_iadd dX3_writesNumber_25 ?_
  refine r_put 3 7 dX3_writesNumber_26 rfl (Nat.le_of_ble_eq_true rfl) (lkA q1897) (Or.inl rfl) rfl (m_o hi) (by dsimp only [List.set]) (Nat.le_of_ble_eq_true rfl) rfl rfl (m_s2 hi) ?_
  rw [← nI_succ]
  refine r_bipush (v := 48) dX3_writesNumber_29 rfl ?_
  refine r_iload_n dX3_writesNumber_31 rfl ?_
  refine r_bipush (v := 10) dX3_writesNumber_32 rfl ?_
  refine r_irem dX3_writesNumber_34 (by decide) ?_
  refine r_iadd dX3_writesNumber_35 ?_
  rw [(dv10 (by omega)).2]
  refine r_iastore ((l ++ digs (v / 10)).length) dX3_writesNumber_36 (m_a4 hi) (nIn (by omega)) (by omega) ?_
  rw [m_w4 hi]
  exact r_return dX3_writesNumber_37 rfl ⟨rfl, _, rfl, by rw [digs_2 h1 hv9, show ([48 + nI (v / 10), 48 + nI (v % 10)] : List Int32) = digs (v / 10) ++ [48 + nI (v % 10)] by rw [digs_1 (by omega)]; rfl, ← List.append_assoc]; exact WL_put hW2 (by omega)⟩

set_option maxHeartbeats 4000000 in
set_option maxRecDepth 100000 in
theorem sp_wn_3 {G : GG} {A : Nat → Nat} {S : Nat → Nat → Int32} {h : HP} (hi : inj 8 mdom A) {S0 : Nat → Nat → Int32} {l : List Int32} (hW : WL S0 S l) {v : Nat} (h1 : v = 100) (hl : l.length + 3 ≤ 60) : Ct G 2 0 M_X3_writesNumber [.ref (A 7), .int (nI v)] (ov (mdH A S) h) (wlQ A S0 h (l ++ digs v)) := by
  refine ct_intro my_X3_writesNumber (Nat.le_of_ble_eq_true rfl) ?_
  refine r_iload_n dX3_writesNumber_0 rfl ?_
  refine r_bipush (v := 9) dX3_writesNumber_1 rfl ?_
  refine r_icmp_le 14 dX3_writesNumber_3 rfl (fun c3 => absurd c3 (by rw [Int32.le_iff_toInt_le, nIn (by omega)]; have h9 : (9 : Int32).toInt = 9 := rfl; omega)) (fun c3 => ?_)
  first | refine r_aload_n dX3_writesNumber_6 rfl ?_ | refine r_aload_nq dX3_writesNumber_6 rfl ?_ | refine r_aload_nN dX3_writesNumber_6 rfl ?_
  refine r_iload_n dX3_writesNumber_7 rfl ?_
  refine r_bipush (v := 10) dX3_writesNumber_8 rfl ?_
  refine r_idiv dX3_writesNumber_10 (by decide) ?_
  rw [(dv10 (by omega)).1]
  refine r_invV dX3_writesNumber_11 (sp_wn_2 hi hW (v := v / 10) (by omega) (by omega) (by omega)) rfl mo_X3_writesNumber (Or.inl (m_o hi)) rfl (lkA q2174) (lkA q2176) (lkA qs60) rfl (lkA q82) mp_X3_writesNumber (Nat.le_of_ble_eq_true rfl) (Nat.le_of_ble_eq_true rfl) (Nat.le_of_ble_eq_true rfl) (kr_r (fun v9 h9 p9 => ?_)) kx_r
  obtain ⟨rfl, S2, rfl, hW2⟩ := p9
  have hl2 : (l ++ digs (v / 10)).length = l.length + 2 := by
    rw [List.length_append]
    exact congrArg (l.length + ·) (by rw [digs_2 (by omega) (by omega)]; rfl)
  first | refine r_aload_n dX3_writesNumber_14 rfl ?_ | refine r_aload_nq dX3_writesNumber_14 rfl ?_ | refine r_aload_nN dX3_writesNumber_14 rfl ?_
  refine r_getfield 3 6 dX3_writesNumber_15 rfl (Nat.le_of_ble_eq_true rfl) (lkA q1896) (Or.inl rfl) (Or.inl (m_o hi)) (by rfl) ?_
  first | refine r_aload_n dX3_writesNumber_18 rfl ?_ | refine r_aload_nq dX3_writesNumber_18 rfl ?_ | refine r_aload_nN dX3_writesNumber_18 rfl ?_
  refine r_dup dX3_writesNumber_19 rfl ?_
  refine r_getfield 3 7 dX3_writesNumber_20 rfl (Nat.le_of_ble_eq_true rfl) (lkA q1897) (Or.inl rfl) (Or.inl (m_o hi)) (congrArg (fun z => some (Value.int z)) hW2.2.2.1) ?_
  refine r_dup_x1 dX3_writesNumber_23 rfl rfl ?_
  refine r_iconst (v := 1) dX3_writesNumber_24 rfl ?_
  refine r_iadd dX3_writesNumber_25 ?_
  refine r_put 3 7 dX3_writesNumber_26 rfl (Nat.le_of_ble_eq_true rfl) (lkA q1897) (Or.inl rfl) rfl (m_o hi) (by dsimp only [List.set]) (Nat.le_of_ble_eq_true rfl) rfl rfl (m_s2 hi) ?_
  rw [← nI_succ]
  refine r_bipush (v := 48) dX3_writesNumber_29 rfl ?_
  refine r_iload_n dX3_writesNumber_31 rfl ?_
  refine r_bipush (v := 10) dX3_writesNumber_32 rfl ?_
  refine r_irem dX3_writesNumber_34 (by decide) ?_
  refine r_iadd dX3_writesNumber_35 ?_
  rw [(dv10 (by omega)).2]
  refine r_iastore ((l ++ digs (v / 10)).length) dX3_writesNumber_36 (m_a4 hi) (nIn (by omega)) (by omega) ?_
  rw [m_w4 hi]
  exact r_return dX3_writesNumber_37 rfl ⟨rfl, _, rfl, by rw [h1, digs_3, show ([49, 48, 48] : List Int32) = digs (100 / 10) ++ [48 + nI (100 % 10)] by decide +kernel, ← List.append_assoc, ← h1]; exact WL_put hW2 (by omega)⟩

theorem sp_X3_writesNumber {G : GG} {A : Nat → Nat} {S : Nat → Nat → Int32} {h : HP} (hi : inj 8 mdom A) {S0 : Nat → Nat → Int32} {l : List Int32} (hW : WL S0 S l) {x : Int32} (hx : 0 ≤ x.toInt ∧ x.toInt ≤ 100) (hl : l.length + 3 ≤ 60) : Ct G 2 0 M_X3_writesNumber [.ref (A 7), .int x] (ov (mdH A S) h) (wlQ A S0 h (l ++ digs (tn x))) := by
  have ex : x = nI (tn x) := by
    rw [i32_eq, nIn (by unfold tn; omega)]
    unfold tn; omega
  have h100 : tn x ≤ 100 := by unfold tn; omega
  generalize tn x = v at ex h100
  subst ex
  by_cases a : v < 10
  · exact sp_wn_1d hi hW a (by omega)
  · by_cases b : v < 100
    · exact sp_wn_2d hi hW (by omega) b (by omega)
    · exact sp_wn_3 hi hW (by omega) (by omega)
