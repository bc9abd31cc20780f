set_option maxRecDepth 100000
theorem ss_at {S : Nat → Nat → Int32} {k : Nat} {v : Int32} : ss S k v 7 k = v := by
  unfold ss
  rw [sa_s, upd_s]
theorem ss_o {S : Nat → Nat → Int32} {k j : Nat} {v : Int32} (h : j ≠ k) : ss S k v 7 j = S 7 j := by
  unfold ss
  rw [sa_s, upd_n h]
theorem ss_ar {S : Nat → Nat → Int32} {k i : Nat} {v : Int32} (h : i ≠ 7) : ss S k v i = S i := by
  unfold ss
  exact sa_n h
theorem ss_id {S : Nat → Nat → Int32} {k : Nat} : ss S k (S 7 k) = S := by
  have : upd (S 7) k (S 7 k) = S 7 := by
    funext i
    unfold upd
    by_cases e : i = k
    · rw [if_pos e, e]
    · rw [if_neg e]
  unfold ss
  rw [this, sa_id]
theorem ss_is {S : Nat → Nat → Int32} {k : Nat} {v : Int32} (h : S 7 k = v) : ss S k v = S := by rw [← h, ss_id]
/-- the text of the reference -/
def MT (S : Nat → Nat → Int32) (T : List Int32) : Prop := S 7 3 = nI T.length ∧ T.length ≤ 60 ∧ ∀ j, j < T.length → S 5 j = T.getD j 0
theorem MT_4 {S : Nat → Nat → Int32} {T : List Int32} {k : Nat} {v : Int32} (hM : MT S T) (hk : 3 ≠ k) : MT (ss S k v) T := ⟨by rw [ss_o hk]; exact hM.1, hM.2.1, fun j hj => by rw [ss_ar (by omega)]; exact hM.2.2 j hj⟩
theorem MT_6 {S : Nat → Nat → Int32} {T : List Int32} {f : Nat → Int32} (hM : MT S T) : MT (sa S 6 f) T := hM
theorem MT_h {S : Nat → Nat → Int32} {T : List Int32} {p : Nat} (hM : MT S T) (hp : p < T.length) : S 5 p = hereT T p := by
  rw [hM.2.2 p hp]
  exact (if_pos hp).symm
theorem here_out {T : List Int32} {p : Nat} (h : ¬ p < T.length) : hereT T p = -11 := if_neg h
theorem here_na {T : List Int32} {p : Nat} {c : Int32} (h : ¬ p < T.length) (hc : 0 ≤ c.toInt) : ¬ hereT T p = c := fun e => by
  rw [here_out h] at e
  rw [← e] at hc
  exact absurd hc (by decide)
set_option maxHeartbeats 4000000 in
set_option maxRecDepth 100000 in
theorem lp_mword {G : GG} {A : Nat → Nat} {h : HP} (hi : inj 8 mdom A) (hT : KT G) {ka : Nat → Nat} (hKC : KC G ka) {T : List Int32} {k : Nat} (hk20 : k < 20) (hk6 : (kch k).length ≤ 6) : ∀ (n i p : Nat) (S : Nat → Nat → Int32), i + n = (kch k).length → (0 : Nat) = 0 → MT S T → S 7 4 = nI p → p ≤ T.length → V G 4 M_X3_word 2 [(2, .int (nI i)), (1, .ref (ka k)), (0, .ref (A 7))] [] (ov (mdH A S) h) 0 (eQ (some (.int (bi (pX T (kch k) n i p).2))) (ov (mdH A (ss S 4 (nI (pX T (kch k) n i p).1))) h)) := by
  intro n
  induction n with
  | zero =>
    intro i p S hin hk hM hat hp
    obtain ⟨fs9, ho9⟩ := ST_obj (ST_k hKC (ov (mdH A S) h) k hk20)
    refine r_iload_n dX3_word_2 rfl ?_
    first | refine r_aload_n dX3_word_3 rfl ?_ | refine r_aload_nq dX3_word_3 rfl ?_ | refine r_aload_nN dX3_word_3 rfl ?_
    refine r_invV dX3_word_4 (sp_ST_length hT (ST_k hKC _ k hk20)) rfl mo_J12_length ho9 rfl (lkA q2136) (lkA q721) (lkA q722) rfl (lkA q80) mp_J12_length (Nat.le_of_ble_eq_true rfl) (Nat.le_of_ble_eq_true rfl) (Nat.le_of_ble_eq_true rfl) (kr_e ?_) kx_e
    refine r_icmp_ge 56 dX3_word_7 rfl (fun c7 => ?_) (fun c7 => absurd c7 (fun e => e ((nJ_le (by omega) (by omega)).mpr (by omega))))
    refine r_iconst (v := 1) dX3_word_56 rfl ?_
    exact r_ireturn dX3_word_57 rfl (by first | rfl | exact bi_nar) ⟨rfl, by show _ = ov (mdH A (ss S 4 (nI p))) h; rw [ss_is hat]⟩
  | succ n ih =>
    intro i p S hin hk hM hat hp
    obtain ⟨fs9, ho9⟩ := ST_obj (ST_k hKC (ov (mdH A S) h) k hk20)
    have hac := (kch_as hk20 i (by omega)).1
    have hT60 := hM.2.1
    refine r_iload_n dX3_word_2 rfl ?_
    first | refine r_aload_n dX3_word_3 rfl ?_ | refine r_aload_nq dX3_word_3 rfl ?_ | refine r_aload_nN dX3_word_3 rfl ?_
    refine r_invV dX3_word_4 (sp_ST_length hT (ST_k hKC _ k hk20)) rfl mo_J12_length ho9 rfl (lkA q2136) (lkA q721) (lkA q722) rfl (lkA q80) mp_J12_length (Nat.le_of_ble_eq_true rfl) (Nat.le_of_ble_eq_true rfl) (Nat.le_of_ble_eq_true rfl) (kr_e ?_) kx_e
    refine r_icmp_ge 56 dX3_word_7 rfl (fun c7 => absurd c7 (fun e => by have := (nJ_le (by omega) (by omega)).mp e; omega)) (fun c7 => ?_)
    first | refine r_aload_n dX3_word_10 rfl ?_ | refine r_aload_nq dX3_word_10 rfl ?_ | refine r_aload_nN dX3_word_10 rfl ?_
    refine r_getfield 3 10 dX3_word_11 rfl (Nat.le_of_ble_eq_true rfl) (lkA q1900) (Or.inl rfl) (Or.inl (m_o hi)) (congrArg (fun z => some (Value.int z)) hat) ?_
    first | refine r_aload_n dX3_word_14 rfl ?_ | refine r_aload_nq dX3_word_14 rfl ?_ | refine r_aload_nN dX3_word_14 rfl ?_
    refine r_getfield 3 9 dX3_word_15 rfl (Nat.le_of_ble_eq_true rfl) (lkA q1899) (Or.inl rfl) (Or.inl (m_o hi)) (congrArg (fun z => some (Value.int z)) hM.1) ?_
    refine r_icmp_eq 38 dX3_word_18 rfl (fun c18 => ?_) (fun c18 => ?_)
    · refine r_iconst (v := 0) dX3_word_38 rfl ?_
      exact r_ireturn dX3_word_39 rfl (by first | rfl | exact bi_nar) (by rw [pX_s, if_neg (here_na (fun e => by have := (nJ_eq (by omega) (by omega)).mp c18; omega) hac)]; exact ⟨rfl, by show _ = ov (mdH A (ss S 4 (nI p))) h; rw [ss_is hat]⟩)
    · have hpl : p < T.length := by
        by_cases e : p = T.length
        · exact absurd (congrArg nI e) c18
        · omega
      first | refine r_aload_n dX3_word_21 rfl ?_ | refine r_aload_nq dX3_word_21 rfl ?_ | refine r_aload_nN dX3_word_21 rfl ?_
      refine r_getfield 3 8 dX3_word_22 rfl (Nat.le_of_ble_eq_true rfl) (lkA q1898) (Or.inl rfl) (Or.inl (m_o hi)) (by rfl) ?_
      first | refine r_aload_n dX3_word_25 rfl ?_ | refine r_aload_nq dX3_word_25 rfl ?_ | refine r_aload_nN dX3_word_25 rfl ?_
      refine r_getfield 3 10 dX3_word_26 rfl (Nat.le_of_ble_eq_true rfl) (lkA q1900) (Or.inl rfl) (Or.inl (m_o hi)) (congrArg (fun z => some (Value.int z)) hat) ?_
      refine r_iaload (p) dX3_word_29 (by first | exact Or.inl (m_a0 hi) | exact Or.inl (m_a1 hi) | exact Or.inl (m_a2 hi) | exact Or.inl (m_a3 hi) | exact Or.inl (m_a4 hi) | exact Or.inl (m_a5 hi) | exact Or.inl (m_a6 hi)) (nIn (by omega)) (by omega) rfl ?_
      first | refine r_aload_n dX3_word_30 rfl ?_ | refine r_aload_nq dX3_word_30 rfl ?_ | refine r_aload_nN dX3_word_30 rfl ?_
      refine r_iload_n dX3_word_31 rfl ?_
      refine r_invV dX3_word_32 (sp_ST_charAt hT (ST_k hKC _ k hk20) (nIn (show i < 1000 by omega)) (by omega)) rfl mo_J12_charAt ho9 rfl (lkA q2137) (lkA q1518) (lkA q2248) rfl (lkA q80) mp_J12_charAt (Nat.le_of_ble_eq_true rfl) (Nat.le_of_ble_eq_true rfl) (Nat.le_of_ble_eq_true rfl) (kr_e ?_) kx_e
      refine r_icmp_eq 40 dX3_word_35 rfl (fun c35 => ?_) (fun c35 => ?_)
      · first | refine r_aload_n dX3_word_40 rfl ?_ | refine r_aload_nq dX3_word_40 rfl ?_ | refine r_aload_nN dX3_word_40 rfl ?_
        refine r_dup dX3_word_41 rfl ?_
        refine r_getfield 3 10 dX3_word_42 rfl (Nat.le_of_ble_eq_true rfl) (lkA q1900) (Or.inl rfl) (Or.inl (m_o hi)) (congrArg (fun z => some (Value.int z)) hat) ?_
        refine r_iconst (v := 1) dX3_word_45 rfl ?_
        refine r_iadd dX3_word_46 ?_
        refine r_put 3 10 dX3_word_47 rfl (Nat.le_of_ble_eq_true rfl) (lkA q1900) (Or.inl rfl) rfl (m_o hi) (by dsimp only [List.set]) (Nat.le_of_ble_eq_true rfl) rfl rfl (m_s4 hi) ?_
        refine r_inc 1 dX3_word_50 rfl rfl (Nat.le_of_ble_eq_true rfl) ?_
        refine r_goto 2 dX3_word_53 rfl ?_
        have c35' : hereT T p = (kch k).getD i 0 := (MT_h hM hpl).symm.trans c35
        rw [pX_s, if_pos c35']
        refine V_loc (L' := [(2, .int (nI i + 1)), (1, .ref (ka k)), (0, .ref (A 7))]) ⟨rfl, rfl, rfl, trivial⟩ ?_
        rw [← nI_succ, ← nI_succ]
        have := ih (i + 1) (p + 1) (ss S 4 (nI (p + 1))) (by omega) hk (MT_4 hM (by decide)) ss_at hpl
        rw [ss_ss] at this
        exact this
      · refine r_iconst (v := 0) dX3_word_38 rfl ?_
        exact r_ireturn dX3_word_39 rfl (by first | rfl | exact bi_nar) (by rw [pX_s, if_neg (fun e => c35 ((MT_h hM hpl).trans e))]; exact ⟨rfl, by show _ = ov (mdH A (ss S 4 (nI p))) h; rw [ss_is hat]⟩)

set_option maxHeartbeats 4000000 in
set_option maxRecDepth 100000 in
theorem sp_X3_word {G : GG} {A : Nat → Nat} {S : Nat → Nat → Int32} {h : HP} (hi : inj 8 mdom A) (hT : KT G) {ka : Nat → Nat} (hKC : KC G ka) {T : List Int32} {k : Nat} (hk20 : k < 20) {p : Nat} (hM : MT S T) (hat : S 7 4 = nI p) (hp : p ≤ T.length)  : Ct G 4 0 M_X3_word [.ref (A 7), .ref (ka k)] (ov (mdH A S) h) ((eQ (some (.int (bi (pX T (kch k) (kch k).length 0 p).2))) (ov (mdH A (ss S 4 (nI (pX T (kch k) (kch k).length 0 p).1))) h))) := by
  refine ct_intro my_X3_word (Nat.le_of_ble_eq_true rfl) ?_
  refine r_iconst (v := 0) dX3_word_0 rfl ?_
  refine r_istore_n dX3_word_1 (Nat.le_of_ble_eq_true rfl) ?_
  refine V_loc (L' := [(2, .int (nI 0)), (1, .ref (ka k)), (0, .ref (A 7))]) ⟨rfl, rfl, rfl, trivial⟩ ?_
  exact lp_mword hi hT hKC hk20 (kch_l k hk20) _ 0 p S (by omega) rfl hM hat hp

