set_option maxRecDepth 100000
theorem arrV_cg {c : ClassId} {n : Nat} {f g : Nat → Value} (e : ∀ j, j < n → f j = g j) : arrV c n f = arrV c n g := by
  unfold arrV
  have : (fun j : Fin n => f j.val) = (fun j : Fin n => g j.val) := funext fun j => e j.1 j.2
  rw [this]
theorem Rep_cong {G : GG} {h : HP} {H : Heap} {a n : Nat} {f g : Nat → Int32} (hR : Rep G h H) (ha : h a = some (bI 0 n f)) (e : ∀ j, j < n → f j = g j) : Rep G (hu h a (bI 0 n g)) H := by
  refine ⟨hR.1, fun q b hb => ?_⟩
  by_cases hq : q = a
  · subst hq
    rw [hu_s] at hb
    rw [← Option.some.inj hb]
    obtain ⟨h1, -, h3⟩ := hR.2 q _ ha
    refine ⟨h1, Or.inl rfl, ?_⟩
    have h3 : H[q]? = some (arrV (gA G 0) n (fun j => .int (f j))) := h3
    show H[q]? = some (arrV (gA G 0) n (fun j => .int (g j)))
    rw [h3, arrV_cg (fun j hj => by rw [e j hj])]
  · rw [hu_n hq] at hb
    exact hR.2 q b hb
section VC
variable {G : GG} {d : Nat} {M : Mt} {pc : Nat} {L : List (Nat × Value)} {st : List Value} {h : HP} {c : Nat} {Q : Oc → HP → Prop}
/-- what lies behind the end of an array may be told otherwise -/
theorem V_cong {a n : Nat} {f g : Nat → Int32} (ha : h a = some (bI 0 n f)) (e : ∀ j, j < n → f j = g j) (kk : V G d M pc L st (hu h a (bI 0 n g)) c Q) : V G d M pc L st h c Q := by
  intro hG p en R s m args below meth cd Z hC hF H locs k n2 ls hR
  exact kk hG p en R s m args below meth cd Z hC hF H locs k n2 ls (Rep_cong hR ha e)
end VC
theorem oC_K {x c : Int32} {w : Nat → Int32} (h : (oK x w : OpR) = oC c) : False := by cases h
theorem oC_R {a b c : Int32} (h : (oR a b : OpR) = oC c) : False := by cases h
theorem oC_i {a c : Int32} (h : (oC a : OpR) = oC c) (ha : ¬ a = 0) : ¬ c = 0 := fun e => by
  have : a = c := Sum.inl.inj h
  exact ha (this.trans e)
theorem dO_c {w : Nat → Int32} {a : Ord1} {c : Int32} (h : dO w a = oC c) : ¬ c = 0 := by
  obtain ⟨k, x, y, z⟩ := a
  have g1 : ∀ {s : Nat} {h9 : Int32}, gGoR w s h9 = oC c → False := fun {s h9} h => by
    unfold gGoR at h
    (repeat' split at h) <;> first | exact oC_K h | exact oC_R h
  have g2 : ∀ {s h9 b : Nat} {p : Int32}, gRingR w s h9 b p = oC c → False := fun {s h9 b p} h => by
    unfold gRingR at h
    (repeat' split at h) <;> first | exact oC_K h | exact oC_R h
  have g3 : ∀ {s h9 : Nat}, gPetR w s h9 = oC c → False := fun {s h9} h => by
    unfold gPetR at h
    (repeat' split at h) <;> first | exact oC_K h | exact oC_R h
  have g4 : ∀ {s b : Nat} {n : Int32}, gTakeR w s b n = oC c → False := fun {s b n} h => by
    unfold gTakeR at h
    (repeat' split at h) <;> first | exact oC_K h | exact oC_R h
  have g5 : ∀ {i s h9 b : Nat}, gBackR w i s h9 b = oC c → False := fun {i s h9 b} h => by
    unfold gBackR at h
    (repeat' split at h) <;> first | exact oC_K h | exact oC_R h
  have g6 : ∀ {s : Nat}, gRenR w s = oC c → False := fun {s} h => by
    unfold gRenR at h
    (repeat' split at h) <;> first | exact oC_K h | exact oC_R h
  match k, h with
  | 0, h =>
    have h : oGoes w x y = oC c := h
    unfold oGoes at h
    split at h
    · exact (g1 h).elim
    · exact oC_i h (by decide)
  | 1, h =>
    have h : oRings w x y z = oC c := h
    unfold oRings at h
    split at h
    · split at h
      · exact (g2 h).elim
      · exact oC_i h (by decide)
    · exact oC_i h (by decide)
  | 2, h =>
    have h : oPets w x = oC c := h
    unfold oPets at h
    split at h
    · exact (g3 h).elim
    · exact oC_i h (by decide)
  | 3, h =>
    have h : oTakes w x y z = oC c := h
    unfold oTakes at h
    split at h
    · split at h
      · exact (g4 h).elim
      · exact oC_i h (by decide)
    · exact oC_i h (by decide)
  | 4, h =>
    have h : oBack w x = oC c := h
    unfold oBack at h
    split at h
    · exact (g5 h).elim
    · exact oC_i h (by decide)
  | 5, h =>
    have h : oRenews w x = oC c := h
    unfold oRenews at h
    split at h
    · exact (g6 h).elim
    · exact oC_i h (by decide)
  | n + 6, h =>
    have h : oDay w = oC c := h
    exact (oC_K h).elim
/-- a refused or impossible order: what the reference answers of it is not 0 -/
theorem mres_n {S : Nat → Nat → Int32} {w : Nat → Int32} {a : Ord1} (h : ∀ x w', dO w a ≠ oK x w') : ¬ (mres S (dO w a)).1 = 0 := by
  cases e : dO w a with
  | inl c => exact dO_c e
  | inr r =>
    cases r with
    | inl b => show ¬ (-14 : Int32) = 0; decide
    | inr b => exact absurd e (h b.1 b.2)
/-- what the orders leave alone -/
def mX (SB S : Nat → Nat → Int32) : Prop := (∀ i, i ≠ 0 → i ≠ 6 → i ≠ 7 → S i = SB i) ∧ ∀ j, j ≠ 4 → j ≠ 5 → j ≠ 8 → S 7 j = SB 7 j
theorem mX_F {SB S S' : Nat → Nat → Int32} (hX : mX SB S) (hF : mF S S') : mX SB S' := ⟨fun i h0 h6 h7 => (hF.1 i h6 h7).trans (hX.1 i h0 h6 h7), fun j h4 h5 h8 => (hF.2 j h4 h5).trans (hX.2 j h4 h5 h8)⟩
theorem mX_K {SB S : Nat → Nat → Int32} {w : Nat → Int32} {x : Int32} (hX : mX SB S) : mX SB (ss (sa S 0 w) 8 x) := ⟨fun i h0 h6 h7 => by rw [ss_ar h7, sa_n h0]; exact hX.1 i h0 h6 h7, fun j h4 h5 h8 => by rw [ss_o h8, sa_n (by decide)]; exact hX.2 j h4 h5 h8⟩
theorem MT_X {SB S : Nat → Nat → Int32} {T : List Int32} (hM : MT SB T) (hX : mX SB S) : MT S T := ⟨by rw [hX.2 3 (by decide) (by decide) (by decide)]; exact hM.1, hM.2.1, fun j hj => by rw [hX.1 5 (by decide) (by decide) (by decide)]; exact hM.2.2 j hj⟩
theorem pT_tail {T : List Int32} {f p : Nat} {a : Ord1} (h59 : hereT T p = 59) (ha : (pO T (p + 1)).2 = some a) : (pT T (f + 1) p).1 = (pT T f (pO T (p + 1)).1).1 ∧ (pT T (f + 1) p).2.isSome = (pT T f (pO T (p + 1)).1).2.isSome := by
  rw [pT_59 h59, pb_s ha]
  cases e : (pT T f (pO T (p + 1)).1).2 with
  | none => rw [pb_n e]; exact ⟨rfl, rfl⟩
  | some os => rw [pb_s e]; exact ⟨rfl, rfl⟩
set_option maxHeartbeats 4000000 in
set_option maxRecDepth 100000 in
theorem lp_mparse {G : GG} {A : Nat → Nat} {h : HP} (hi : inj 8 mdom A) (hT : KT G) {ka : Nat → Nat} (hKC : KC G ka) {T : List Int32} {S0 : Nat → Nat → Int32} (hM0 : MT S0 T) {Q : Oc → HP → Prop} : ∀ (f p : Nat) (S : Nat → Nat → Int32), MT S T → S 7 4 = nI p → mF S0 S → p ≤ T.length → T.length ≤ p + f → (∀ S', mF S0 S' → S' 7 4 = nI (pT T f p).1 → V G 7 M_X3_run 54 [(1, .int (bi (pT T f p).2.isSome)), (0, .ref (A 7))] [] (ov (mdH A S') h) 0 Q) → V G 7 M_X3_run 14 [(1, .int 1), (0, .ref (A 7))] [] (ov (mdH A S) h) 0 Q := by
  intro f
  induction f with
  | zero =>
    intro p S hM hat hF hp hf K
    have hT60 := hM.2.1
    refine r_iload_n dX3_run_14 rfl ?_
    refine r_if_eq 54 dX3_run_15 rfl (fun c15 => absurd c15 (by decide)) (fun c15 => ?_)
    first | refine r_aload_n dX3_run_18 rfl ?_ | refine r_aload_nq dX3_run_18 rfl ?_ | refine r_aload_nN dX3_run_18 rfl ?_
    refine r_getfield 3 10 dX3_run_19 rfl (Nat.le_of_ble_eq_true rfl) (lkA q1900) (Or.inl rfl) (Or.inl (m_o hi)) (congrArg (fun z => some (Value.int z)) hat) ?_
    first | refine r_aload_n dX3_run_22 rfl ?_ | refine r_aload_nq dX3_run_22 rfl ?_ | refine r_aload_nN dX3_run_22 rfl ?_
    refine r_getfield 3 9 dX3_run_23 rfl (Nat.le_of_ble_eq_true rfl) (lkA q1899) (Or.inl rfl) (Or.inl (m_o hi)) (congrArg (fun z => some (Value.int z)) hM.1) ?_
    refine r_icmp_ge 54 dX3_run_26 rfl (fun c26 => ?_) (fun c26 => absurd c26 (fun e => e ((nJ_le (by omega) (by omega)).mpr (by omega))))
    rw [show pT T 0 p = (p, some []) by unfold pT; rw [if_neg (by rw [here_out (by omega)]; decide), if_pos (by omega)]] at K
    refine V_loc (L' := [(1, .int 1), (0, .ref (A 7))]) ⟨rfl, rfl, trivial⟩ ?_
    exact K S hF hat
  | succ f ih =>
    intro p S hM hat hF hp hf K
    have hT60 := hM.2.1
    refine r_iload_n dX3_run_14 rfl ?_
    refine r_if_eq 54 dX3_run_15 rfl (fun c15 => absurd c15 (by decide)) (fun c15 => ?_)
    first | refine r_aload_n dX3_run_18 rfl ?_ | refine r_aload_nq dX3_run_18 rfl ?_ | refine r_aload_nN dX3_run_18 rfl ?_
    refine r_getfield 3 10 dX3_run_19 rfl (Nat.le_of_ble_eq_true rfl) (lkA q1900) (Or.inl rfl) (Or.inl (m_o hi)) (congrArg (fun z => some (Value.int z)) hat) ?_
    first | refine r_aload_n dX3_run_22 rfl ?_ | refine r_aload_nq dX3_run_22 rfl ?_ | refine r_aload_nN dX3_run_22 rfl ?_
    refine r_getfield 3 9 dX3_run_23 rfl (Nat.le_of_ble_eq_true rfl) (lkA q1899) (Or.inl rfl) (Or.inl (m_o hi)) (congrArg (fun z => some (Value.int z)) hM.1) ?_
    refine r_icmp_ge 54 dX3_run_26 rfl (fun c26 => ?_) (fun c26 => ?_)
    · have hlp := (nJ_le (show T.length < 1000 by omega) (show p < 1000 by omega)).mp c26
      rw [show pT T (f + 1) p = (p, some []) by unfold pT; rw [if_neg (by rw [here_out (by omega)]; decide), if_pos (by omega)]] at K
      refine V_loc (L' := [(1, .int 1), (0, .ref (A 7))]) ⟨rfl, rfl, trivial⟩ ?_
      exact K S hF hat
    · have hpl : p < T.length := Nat.lt_of_not_le (fun e => c26 ((nJ_le (by omega) (by omega)).mpr e))
      first | refine r_aload_n dX3_run_29 rfl ?_ | refine r_aload_nq dX3_run_29 rfl ?_ | refine r_aload_nN dX3_run_29 rfl ?_
      refine r_ldcS dX3_run_30 (show Str G "BrushSellersModel" 202 ";" (ka 19) from hKC.1 33 (Nat.le_of_ble_eq_true rfl)) ?_
      refine r_invV dX3_run_32 (sp_sgX hi hT hKC (k := 19) (c := 59) (by decide) rfl hM hat hp hF) rfl mo_X3_word (Or.inl (m_o hi)) rfl (lkA q2132) (lkA q2134) (lkA qs54) rfl (lkA q82) mp_X3_word (Nat.le_of_ble_eq_true rfl) (Nat.le_of_ble_eq_true rfl) (Nat.le_of_ble_eq_true rfl) (kr_r (fun v9 h9 p9 => ?_)) kx_r
      obtain ⟨rfl, S1, rfl, hF1, hat1, h51, h61⟩ := p9
      have hM1 := MT_F hM0 hF1
      refine r_if_eq 49 dX3_run_35 rfl (fun c35 => ?_) (fun c35 => ?_)
      · refine r_iconst (v := 0) dX3_run_49 rfl ?_
        refine r_istore_n dX3_run_50 (Nat.le_of_ble_eq_true rfl) ?_
        refine r_goto 14 dX3_run_51 rfl ?_
        refine r_iload_n dX3_run_14 rfl ?_
        refine r_if_eq 54 dX3_run_15 rfl (fun c15 => ?_) (fun c15 => absurd c15 (fun e => e rfl))
        have e59 := of_decide_eq_false (bi_0.mp c35)
        rw [if_neg e59] at hat1
        rw [show pT T (f + 1) p = (p, none) by unfold pT; rw [if_neg e59, if_neg (by omega)]] at K
        refine V_loc (L' := [(1, .int 0), (0, .ref (A 7))]) ⟨rfl, rfl, trivial⟩ ?_
        exact K S1 hF1 hat1
      · have e59 := of_decide_eq_true (bi_n0.mp c35)
        rw [if_pos e59] at hat1
        first | refine r_aload_n dX3_run_38 rfl ?_ | refine r_aload_nq dX3_run_38 rfl ?_ | refine r_aload_nN dX3_run_38 rfl ?_
        refine r_invV dX3_run_39 (sp_X3_isOrder hi hT hKC hM1 hat1 hpl hF1 hM0) rfl mo_X3_isOrder (Or.inl (m_o hi)) rfl (lkA q2127) (lkA q2129) (lkA qs53) rfl (lkA q82) mp_X3_isOrder (Nat.le_of_ble_eq_true rfl) (Nat.le_of_ble_eq_true rfl) (Nat.le_of_ble_eq_true rfl) (kr_r (fun v9 h9 p9 => ?_)) kx_r
        obtain ⟨rfl, S2, rfl, hF2, hat2, hv2⟩ := p9
        refine r_if_eq 49 dX3_run_42 rfl (fun c42 => ?_) (fun c42 => ?_)
        · refine r_iconst (v := 0) dX3_run_49 rfl ?_
          refine r_istore_n dX3_run_50 (Nat.le_of_ble_eq_true rfl) ?_
          refine r_goto 14 dX3_run_51 rfl ?_
          refine r_iload_n dX3_run_14 rfl ?_
          refine r_if_eq 54 dX3_run_15 rfl (fun c15 => ?_) (fun c15 => absurd c15 (fun e => e rfl))
          rw [pT_59 e59, pb_n (op_n c42)] at K
          refine V_loc (L' := [(1, .int 0), (0, .ref (A 7))]) ⟨rfl, rfl, trivial⟩ ?_
          exact K S2 hF2 hat2
        · refine r_iconst (v := 1) dX3_run_45 rfl ?_
          refine r_goto 50 dX3_run_46 rfl ?_
          refine r_istore_n dX3_run_50 (Nat.le_of_ble_eq_true rfl) ?_
          refine r_goto 14 dX3_run_51 rfl ?_
          obtain ⟨a, ha⟩ := opt_s c42
          obtain ⟨t1, t2⟩ := pT_tail (f := f) e59 ha
          have hp1 := pO_1 ha
          have hp2 := (pO_le (p := p + 1) hpl).2
          refine V_loc (L' := [(1, .int 1), (0, .ref (A 7))]) ⟨rfl, rfl, trivial⟩ ?_
          exact ih _ S2 (MT_F hM0 hF2) hat2 hF2 hp2 (by omega) (fun S3 g1 g2 => by
            have := K S3 g1 (by rw [t1]; exact g2)
            rw [t2] at this
            exact this)

theorem pT_split {T : List Int32} {f q : Nat} {os : List Ord1} (h : (pT T f q).2 = some os) : (hereT T q = 59 ∧ ∃ f' a2 os2, f = f' + 1 ∧ os = a2 :: os2 ∧ (pO T (q + 1)).2 = some a2 ∧ (pT T f' (pO T (q + 1)).1).2 = some os2) ∨ (¬ hereT T q = 59 ∧ q = T.length ∧ os = []) := by
  by_cases e : hereT T q = 59
  · refine Or.inl ⟨e, ?_⟩
    match f, h with
    | 0, h =>
      unfold pT at h
      rw [if_pos e] at h
      cases h
    | f' + 1, h =>
      rw [pT_59 e] at h
      obtain ⟨a2, h1, h2⟩ := pb_some h
      obtain ⟨os2, h3, h4⟩ := pb_some h2
      have h5 : some (a2 :: os2) = some os := h4
      exact ⟨f', a2, os2, rfl, (Option.some.inj h5).symm, h1, h3⟩
  · refine Or.inr ⟨e, ?_⟩
    unfold pT at h
    rw [if_neg e] at h
    by_cases e2 : q = T.length
    · rw [if_pos e2] at h
      have h5 : some ([] : List Ord1) = some os := h
      exact ⟨e2, (Option.some.inj h5).symm⟩
    · rw [if_neg e2] at h; cases h
theorem mres_X {S : Nat → Nat → Int32} {r : OpR} : (∀ i, i ≠ 0 → i ≠ 7 → (mres S r).2 i = S i) ∧ ∀ j, j ≠ 6 → j ≠ 7 → j ≠ 8 → (mres S r).2 7 j = S 7 j := by
  match r with
  | .inl v => exact ⟨fun _ _ _ => rfl, fun _ _ _ _ => rfl⟩
  | .inr (.inl a) => exact ⟨fun i _ h7 => by show ss (ss S 6 a.1) 7 a.2 i = S i; rw [ss_ar h7, ss_ar h7], fun j h6 h7 _ => by show ss (ss S 6 a.1) 7 a.2 7 j = S 7 j; rw [ss_o h7, ss_o h6]⟩
  | .inr (.inr a) => exact ⟨fun i h0 h7 => by show ss (sa S 0 a.2) 8 a.1 i = S i; rw [ss_ar h7, sa_n h0], fun j _ _ h8 => by show ss (sa S 0 a.2) 8 a.1 7 j = S 7 j; rw [ss_o h8, sa_n (by decide)]⟩
abbrev SBm (S : Nat → Nat → Int32) : Nat → Nat → Int32 := sa S 1 (cpN 413 (S 0) (S 1))
theorem SB_7 {S : Nat → Nat → Int32} {j : Nat} : SBm S 7 j = S 7 j := rfl
theorem mE_fail {S S2 : Nat → Nat → Int32} {n : Int32} (g1 : ∀ i, i ≠ 0 → i ≠ 6 → i ≠ 7 → S2 i = SBm S i) (g2 : ∀ j, j ≠ 4 → j ≠ 5 → j ≠ 6 → j ≠ 7 → j ≠ 8 → S2 7 j = S 7 j) : mE (mPub (ss S 3 0) (oR 14 n)).2 (sa (ss (ss (sa (ss S2 3 0) 0 (cpN 413 ((ss S2 3 0) 1) ((ss S2 3 0) 0))) 6 14) 7 n) 0 (S 0)) := by
  have e3 : ∀ i, i ≠ 0 → i ≠ 1 → i ≠ 6 → i ≠ 7 → (sa (ss (ss (sa (ss S2 3 0) 0 (cpN 413 ((ss S2 3 0) 1) ((ss S2 3 0) 0))) 6 14) 7 n) 0 (S 0)) i = S i := fun i h0 h1 h6 h7 => by
    rw [sa_n h0, ss_ar h7, ss_ar h7, sa_n h0, ss_ar h7, g1 i h0 h6 h7]
    exact sa_n h1
  have e4 : ∀ i, i ≠ 7 → (mPub (ss S 3 0) (oR 14 n)).2 i = S i := fun i h7 => by
    show ss (ss (ss S 3 0) 6 14) 7 n i = S i
    rw [ss_ar h7, ss_ar h7, ss_ar h7]
  have e5 : ∀ j, j ≠ 3 → j ≠ 4 → j ≠ 5 → j ≠ 6 → j ≠ 7 → j ≠ 8 → (sa (ss (ss (sa (ss S2 3 0) 0 (cpN 413 ((ss S2 3 0) 1) ((ss S2 3 0) 0))) 6 14) 7 n) 0 (S 0)) 7 j = (mPub (ss S 3 0) (oR 14 n)).2 7 j := fun j h3 h4 h5 h6 h7 h8 => by
    show _ = ss (ss (ss S 3 0) 6 14) 7 n 7 j
    rw [sa_n (show (7 : Nat) ≠ 0 by decide), ss_o h7, ss_o h6, sa_n (show (7 : Nat) ≠ 0 by decide), ss_o h3, g2 j h4 h5 h6 h7 h8, ss_o h7, ss_o h6, ss_o h3]
  refine ⟨by rw [sa_s, e4 0 (by decide)], ?_, ?_, ?_, ?_, e5 0 (by decide) (by decide) (by decide) (by decide) (by decide) (by decide), e5 1 (by decide) (by decide) (by decide) (by decide) (by decide) (by decide), e5 2 (by decide) (by decide) (by decide) (by decide) (by decide) (by decide), ?_, ?_, ?_⟩
  · rw [e3 2 (by decide) (by decide) (by decide) (by decide), e4 2 (by decide)]
  · rw [e3 3 (by decide) (by decide) (by decide) (by decide), e4 3 (by decide)]
  · rw [e3 4 (by decide) (by decide) (by decide) (by decide), e4 4 (by decide)]
  · rw [e3 5 (by decide) (by decide) (by decide) (by decide), e4 5 (by decide)]
  · show _ = ss (ss (ss S 3 0) 6 14) 7 n 7 3
    rw [sa_n (show (7 : Nat) ≠ 0 by decide), ss_o (by decide), ss_o (by decide), sa_n (show (7 : Nat) ≠ 0 by decide), ss_at, ss_o (by decide), ss_o (by decide), ss_at]
  · show _ = ss (ss (ss S 3 0) 6 14) 7 n 7 6
    rw [sa_n (show (7 : Nat) ≠ 0 by decide), ss_o (by decide), ss_at, ss_o (by decide), ss_at]
  · show _ = ss (ss (ss S 3 0) 6 14) 7 n 7 7
    rw [sa_n (show (7 : Nat) ≠ 0 by decide), ss_at, ss_at]
set_option maxHeartbeats 4000000 in
set_option maxRecDepth 100000 in
theorem lp_mexec {G : GG} {A : Nat → Nat} {h : HP} (hi : inj 8 mdom A) (hT : KT G) {ka : Nat → Nat} (hKC : KC G ka) {T : List Int32} {SE : Nat → Nat → Int32} (hMB : MT (SBm SE) T) (u : Nat) (hu : (SE 7 0).toInt = (u : Int)) (hu8 : u ≤ 8) (hPI : PI) {D9 : Int} (hD : D9 ≤ 90000) (res : OpR) : ∀ (os : List Ord1) (a : Ord1) (f p n : Nat) (S : Nat → Nat → Int32) (x1 x3 : Int32), mX (SBm SE) S → S 7 4 = nI p → p ≤ T.length → (pO T p).2 = some a → (pT T f (pO T p).1).2 = some os → IV (D9 + n) (S 0) → n + os.length ≤ 61 → res = dR (dL (a :: os) (S 0) n) → V G 7 M_X3_run 84 [(4, .int 1), (3, .int x3), (2, .int (nI n)), (1, .int x1), (0, .ref (A 7))] [] (ov (mdH A S) h) 0 (mPubQ A (ss SE 3 0) h res) := by
  have main : ∀ (N : Nat) (os : List Ord1), os.length = N → ∀ (a : Ord1) (f p n : Nat) (S : Nat → Nat → Int32) (x1 x3 : Int32), mX (SBm SE) S → S 7 4 = nI p → p ≤ T.length → (pO T p).2 = some a → (pT T f (pO T p).1).2 = some os → IV (D9 + n) (S 0) → n + os.length ≤ 61 → res = dR (dL (a :: os) (S 0) n) → V G 7 M_X3_run 84 [(4, .int 1), (3, .int x3), (2, .int (nI n)), (1, .int x1), (0, .ref (A 7))] [] (ov (mdH A S) h) 0 (mPubQ A (ss SE 3 0) h res) := by
    intro N
    induction N with
    | zero =>
      intro os hN a f p n S x1 x3 hX hat hp ha ht hI hn61 hr
      have hlt : D9 + (n : Int) < 100000 := by omega
      have ih : ∀ (os2 : List Ord1), os2.length + 1 = os.length → ∀ (a : Ord1) (f p n : Nat) (S : Nat → Nat → Int32) (x1 x3 : Int32), mX (SBm SE) S → S 7 4 = nI p → p ≤ T.length → (pO T p).2 = some a → (pT T f (pO T p).1).2 = some os2 → IV (D9 + n) (S 0) → n + os2.length ≤ 61 → res = dR (dL (a :: os2) (S 0) n) → V G 7 M_X3_run 84 [(4, .int 1), (3, .int x3), (2, .int (nI n)), (1, .int x1), (0, .ref (A 7))] [] (ov (mdH A S) h) 0 (mPubQ A (ss SE 3 0) h res) := fun os2 h => by omega
      refine r_iload dX3_run_84 rfl ?_
      refine r_if_eq 129 dX3_run_86 rfl (fun c86 => absurd c86 (by decide)) (fun c86 => ?_)
      first | refine r_aload_n dX3_run_89 rfl ?_ | refine r_aload_nq dX3_run_89 rfl ?_ | refine r_aload_nN dX3_run_89 rfl ?_
      refine r_invV dX3_run_90 (sp_X3_isOrder hi hT hKC (MT_X hMB hX) hat hp mF_r (MT_X hMB hX)) rfl mo_X3_isOrder (Or.inl (m_o hi)) rfl (lkA q2127) (lkA q2129) (lkA qs53) rfl (lkA q82) mp_X3_isOrder (Nat.le_of_ble_eq_true rfl) (Nat.le_of_ble_eq_true rfl) (Nat.le_of_ble_eq_true rfl) (kr_r (fun v9 h9 p9 => ?_)) kx_r
      obtain ⟨rfl, S1, rfl, hF1, hat1, hv1⟩ := p9
      obtain ⟨h51, htd⟩ := hv1 a ha
      have hX1 := mX_F hX hF1
      have e0 : S1 0 = S 0 := hF1.1 0 (by decide) (by decide)
      have a7 : a.1 < 7 := by
        obtain ⟨k, h6, h7⟩ := pb_some ha
        exact pA_7 h7
      have hp1 := (pO_le hp).2
      refine r_istore_n dX3_run_93 (Nat.le_of_ble_eq_true rfl) ?_
      first | refine r_aload_n dX3_run_94 rfl ?_ | refine r_aload_nq dX3_run_94 rfl ?_ | refine r_aload_nN dX3_run_94 rfl ?_
      refine r_invV dX3_run_95 (sp_X3_carries hi hT hKC (T := T) a7 (by rw [e0]; exact IV_inv hI) h51 htd) rfl mo_X3_carries (Or.inl (m_o hi)) rfl (lkA q2157) (lkA q2159) (lkA qs57) rfl (lkA q82) mp_X3_carries (Nat.le_of_ble_eq_true rfl) (Nat.le_of_ble_eq_true rfl) (Nat.le_of_ble_eq_true rfl) (kr_e ?_) kx_e
      rw [e0]
      have hm : (∃ x w2, dO (S 0) a = oK x w2) ∨ ∀ x w2, dO (S 0) a ≠ oK x w2 := by
        cases e : dO (S 0) a with
        | inl c => exact Or.inr fun x w2 e2 => oC_ne e2
        | inr r =>
          cases r with
          | inl b => exact Or.inr fun x w2 e2 => oR_ne (a := b.1) (b := b.2) e2
          | inr b => exact Or.inl ⟨b.1, b.2, rfl⟩
      rcases hm with ⟨x, w2, hk⟩ | hk
      · have hm1 : (mres S1 (dO (S 0) a)).1 = 0 := by rw [hk]; rfl
        have hm2 : (mres S1 (dO (S 0) a)).2 = ss (sa S1 0 w2) 8 x := by rw [hk]; rfl
        rw [hm1, hm2]
        have hat2 : ss (sa S1 0 w2) 8 x 7 4 = nI (pO T p).1 := (ss_o (by decide)).trans hat1
        refine r_istore_n dX3_run_98 (Nat.le_of_ble_eq_true rfl) ?_
        refine r_iload_n dX3_run_99 rfl ?_
        refine r_if_ne 106 dX3_run_100 rfl (fun c100 => absurd c100 (by decide)) (fun c100 => ?_)
        refine r_inc 1 dX3_run_103 rfl rfl (Nat.le_of_ble_eq_true rfl) ?_
        refine r_iload_n dX3_run_106 rfl ?_
        refine r_if_ne 123 dX3_run_107 rfl (fun c107 => absurd c107 (by decide)) (fun c107 => ?_)
        first | refine r_aload_n dX3_run_110 rfl ?_ | refine r_aload_nq dX3_run_110 rfl ?_ | refine r_aload_nN dX3_run_110 rfl ?_
        refine r_ldcS dX3_run_111 (show Str G "BrushSellersModel" 202 ";" (ka 19) from hKC.1 33 (Nat.le_of_ble_eq_true rfl)) ?_
        refine r_invV dX3_run_113 (sp_sgX hi hT hKC (k := 19) (c := 59) (by decide) rfl (MT_X hMB (mX_K hX1)) hat2 hp1 mF_r) rfl mo_X3_word (Or.inl (m_o hi)) rfl (lkA q2132) (lkA q2134) (lkA qs54) rfl (lkA q82) mp_X3_word (Nat.le_of_ble_eq_true rfl) (Nat.le_of_ble_eq_true rfl) (Nat.le_of_ble_eq_true rfl) (kr_r (fun v9 h9 p9 => ?_)) kx_r
        obtain ⟨rfl, S3, rfl, hF3, hat3, h53, h63⟩ := p9
        have hX3 := mX_F (mX_K (w := w2) (x := x) hX1) hF3
        have e30 : S3 0 = w2 := (hF3.1 0 (by decide) (by decide)).trans ((ss_ar (by decide)).trans sa_s)
        refine r_if_eq 123 dX3_run_116 rfl (fun c116 => ?_) (fun c116 => ?_)
        · refine r_iconst (v := 0) dX3_run_123 rfl ?_
          refine r_istore dX3_run_124 (Nat.le_of_ble_eq_true rfl) ?_
          refine r_goto 84 dX3_run_126 rfl ?_
          have n59 := of_decide_eq_false (bi_0.mp c116)
          obtain ⟨e59, -⟩ | ⟨-, -, hos⟩ := pT_split ht
          · exact absurd e59 n59
          subst hos
          have hr2 : res = oK (nI (n + 1)) w2 := by
            rw [hr, dL_k hk]
            rfl
          refine r_iload dX3_run_84 rfl ?_
          refine r_if_eq 129 dX3_run_86 rfl (fun c86 => ?_) (fun c86 => absurd c86 (fun e => e rfl))
          first | refine r_aload_n dX3_run_129 rfl ?_ | refine r_aload_nq dX3_run_129 rfl ?_ | refine r_aload_nN dX3_run_129 rfl ?_
          refine r_iconst (v := 0) dX3_run_130 rfl ?_
          refine r_put 3 9 dX3_run_131 rfl (Nat.le_of_ble_eq_true rfl) (lkA q1899) (Or.inl rfl) rfl (m_o hi) (by dsimp only [List.set]) (Nat.le_of_ble_eq_true rfl) rfl rfl (m_s3 hi) ?_
          refine r_iload_n dX3_run_134 rfl ?_
          refine r_if_ne 144 dX3_run_135 rfl (fun c135 => absurd c135 (by decide)) (fun c135 => ?_)
          first | refine r_aload_n dX3_run_138 rfl ?_ | refine r_aload_nq dX3_run_138 rfl ?_ | refine r_aload_nN dX3_run_138 rfl ?_
          refine r_iload_n dX3_run_139 rfl ?_
          refine r_invV dX3_run_140 (sp_X3_keeps hi u (by rw [ss_o (by decide), hX3.2 0 (by decide) (by decide) (by decide)]; exact hu) hu8) rfl mo_X3_keeps (Or.inl (m_o hi)) rfl (lkA q1954) (lkA q1956) (lkA qs32) rfl (lkA q82) mp_X3_keeps (Nat.le_of_ble_eq_true rfl) (Nat.le_of_ble_eq_true rfl) (Nat.le_of_ble_eq_true rfl) (kr_e ?_) kx_e
          exact r_ireturn dX3_run_143 rfl (by first | rfl | exact bi_nar) (by
            rw [hr2, ← nI_succ]
            refine mE_K rfl ?_ ?_ ?_ ?_ ?_ ?_ (fun k hk8 hk4 hk5 => ?_)
            · rw [ss_ar (by decide)]; exact e30
            · rw [ss_ar (by decide), hX3.1 1 (by decide) (by decide) (by decide)]; exact sa_s
            · rw [ss_ar (by decide), hX3.1 2 (by decide) (by decide) (by decide)]; rfl
            · rw [ss_ar (by decide), hX3.1 3 (by decide) (by decide) (by decide)]; rfl
            · rw [ss_ar (by decide), hX3.1 4 (by decide) (by decide) (by decide)]; rfl
            · rw [ss_ar (by decide), hX3.1 5 (by decide) (by decide) (by decide)]; rfl
            · by_cases e3 : k = 3
              · rw [e3, ss_at, ss_at]
              · rw [ss_o e3, ss_o e3, hX3.2 k hk4 hk5 (by omega)]; rfl)
        · refine r_iconst (v := 1) dX3_run_119 rfl ?_
          refine r_goto 124 dX3_run_120 rfl ?_
          refine r_istore dX3_run_124 (Nat.le_of_ble_eq_true rfl) ?_
          refine r_goto 84 dX3_run_126 rfl ?_
          have e59 := of_decide_eq_true (bi_n0.mp c116)
          rw [if_pos e59] at hat3
          have hl59 := here_e e59 (by decide)
          obtain ⟨-, f2, a2, os2, rfl, rfl, h2, h3⟩ | ⟨n59, -⟩ := pT_split ht
          · rw [dL_k hk] at hr
            refine V_loc (L' := [(4, .int 1), (3, .int 0), (2, .int (nI n + 1)), (1, .int (bi (pO T p).2.isSome)), (0, .ref (A 7))]) ⟨rfl, rfl, rfl, rfl, rfl, trivial⟩ ?_
            rw [← nI_succ]
            refine ih os2 rfl a2 f2 ((pO T p).1 + 1) (n + 1) S3 _ _ hX3 hat3 hl59 h2 h3 ?_ (by have : n + (os2.length + 1) ≤ 61 := hn61; omega) (by rw [e30]; exact hr)
            rw [e30, show D9 + ((n + 1 : Nat) : Int) = D9 + (n : Int) + 1 by omega]
            exact (hPI _ _ _ _ _ hlt hI hk).1
          · exact absurd e59 n59
      · have hno := mres_n (S := S1) hk
        have hr2 : res = oR 14 (nI n) := by
          rw [hr, dL_n hk]
          rfl
        have hmx := mres_X (S := S1) (r := dO (S 0) a)
        have g1 : ∀ i, i ≠ 0 → i ≠ 6 → i ≠ 7 → (mres S1 (dO (S 0) a)).2 i = SBm SE i := fun i h0 h6 h7 => (hmx.1 i h0 h7).trans (hX1.1 i h0 h6 h7)
        have g2 : ∀ j, j ≠ 4 → j ≠ 5 → j ≠ 6 → j ≠ 7 → j ≠ 8 → (mres S1 (dO (S 0) a)).2 7 j = SE 7 j := fun j h4 h5 h6 h7 h8 => (hmx.2 j h6 h7 h8).trans (hX1.2 j h4 h5 h8)
        generalize hS2 : (mres S1 (dO (S 0) a)).2 = S2 at g1 g2 ⊢
        refine r_istore_n dX3_run_98 (Nat.le_of_ble_eq_true rfl) ?_
        refine r_iload_n dX3_run_99 rfl ?_
        refine r_if_ne 106 dX3_run_100 rfl (fun c100 => ?_) (fun c100 => absurd c100 hno)
        refine r_iload_n dX3_run_106 rfl ?_
        refine r_if_ne 123 dX3_run_107 rfl (fun c107 => ?_) (fun c107 => absurd c107 hno)
        refine r_iconst (v := 0) dX3_run_123 rfl ?_
        refine r_istore dX3_run_124 (Nat.le_of_ble_eq_true rfl) ?_
        refine r_goto 84 dX3_run_126 rfl ?_
        refine r_iload dX3_run_84 rfl ?_
        refine r_if_eq 129 dX3_run_86 rfl (fun c86 => ?_) (fun c86 => absurd c86 (fun e => e rfl))
        first | refine r_aload_n dX3_run_129 rfl ?_ | refine r_aload_nq dX3_run_129 rfl ?_ | refine r_aload_nN dX3_run_129 rfl ?_
        refine r_iconst (v := 0) dX3_run_130 rfl ?_
        refine r_put 3 9 dX3_run_131 rfl (Nat.le_of_ble_eq_true rfl) (lkA q1899) (Or.inl rfl) rfl (m_o hi) (by dsimp only [List.set]) (Nat.le_of_ble_eq_true rfl) rfl rfl (m_s3 hi) ?_
        refine r_iload_n dX3_run_134 rfl ?_
        refine r_if_ne 144 dX3_run_135 rfl (fun c135 => ?_) (fun c135 => absurd c135 hno)
        first | refine r_aload_n dX3_run_144 rfl ?_ | refine r_aload_nq dX3_run_144 rfl ?_ | refine r_aload_nN dX3_run_144 rfl ?_
        refine r_invV dX3_run_145 (sp_X3_comesBack hi) rfl mo_X3_comesBack (Or.inl (m_o hi)) rfl (lkA q2161) (lkA q2163) (lkA qs58) rfl (lkA q82) mp_X3_comesBack (Nat.le_of_ble_eq_true rfl) (Nat.le_of_ble_eq_true rfl) (Nat.le_of_ble_eq_true rfl) (kr_e ?_) kx_e
        first | refine r_aload_n dX3_run_148 rfl ?_ | refine r_aload_nq dX3_run_148 rfl ?_ | refine r_aload_nN dX3_run_148 rfl ?_
        refine r_bipush (v := 14) dX3_run_149 rfl ?_
        refine r_iload_n dX3_run_151 rfl ?_
        refine r_invV dX3_run_152 (sp_X3_refuses hi) rfl mo_X3_refuses (Or.inl (m_o hi)) rfl (lkA q1950) (lkA q1952) (lkA qs31) rfl (lkA q82) mp_X3_refuses (Nat.le_of_ble_eq_true rfl) (Nat.le_of_ble_eq_true rfl) (Nat.le_of_ble_eq_true rfl) (kr_e ?_) kx_e
        refine V_cong (m_a0 hi) (g := SE 0) (fun j hj => ?_) ?_
        · rw [ss_ar (by decide), ss_ar (by decide), sa_s]
          unfold cpN
          rw [if_pos hj, ss_ar (by decide), g1 1 (by decide) (by decide) (by decide)]
          show cpN 413 (SE 0) (SE 1) j = SE 0 j
          unfold cpN
          rw [if_pos hj]
        rw [m_w0 hi]
        exact r_ireturn dX3_run_155 rfl (by first | rfl | exact bi_nar) (by
            rw [hr2]
            exact ⟨rfl, _, rfl, mE_fail g1 g2⟩)
    | succ N ihN =>
      intro os hN a f p n S x1 x3 hX hat hp ha ht hI hn61 hr
      have hlt : D9 + (n : Int) < 100000 := by omega
      have ih : ∀ (os2 : List Ord1), os2.length + 1 = os.length → ∀ (a : Ord1) (f p n : Nat) (S : Nat → Nat → Int32) (x1 x3 : Int32), mX (SBm SE) S → S 7 4 = nI p → p ≤ T.length → (pO T p).2 = some a → (pT T f (pO T p).1).2 = some os2 → IV (D9 + n) (S 0) → n + os2.length ≤ 61 → res = dR (dL (a :: os2) (S 0) n) → V G 7 M_X3_run 84 [(4, .int 1), (3, .int x3), (2, .int (nI n)), (1, .int x1), (0, .ref (A 7))] [] (ov (mdH A S) h) 0 (mPubQ A (ss SE 3 0) h res) := fun os2 h => ihN os2 (by omega)
      refine r_iload dX3_run_84 rfl ?_
      refine r_if_eq 129 dX3_run_86 rfl (fun c86 => absurd c86 (by decide)) (fun c86 => ?_)
      first | refine r_aload_n dX3_run_89 rfl ?_ | refine r_aload_nq dX3_run_89 rfl ?_ | refine r_aload_nN dX3_run_89 rfl ?_
      refine r_invV dX3_run_90 (sp_X3_isOrder hi hT hKC (MT_X hMB hX) hat hp mF_r (MT_X hMB hX)) rfl mo_X3_isOrder (Or.inl (m_o hi)) rfl (lkA q2127) (lkA q2129) (lkA qs53) rfl (lkA q82) mp_X3_isOrder (Nat.le_of_ble_eq_true rfl) (Nat.le_of_ble_eq_true rfl) (Nat.le_of_ble_eq_true rfl) (kr_r (fun v9 h9 p9 => ?_)) kx_r
      obtain ⟨rfl, S1, rfl, hF1, hat1, hv1⟩ := p9
      obtain ⟨h51, htd⟩ := hv1 a ha
      have hX1 := mX_F hX hF1
      have e0 : S1 0 = S 0 := hF1.1 0 (by decide) (by decide)
      have a7 : a.1 < 7 := by
        obtain ⟨k, h6, h7⟩ := pb_some ha
        exact pA_7 h7
      have hp1 := (pO_le hp).2
      refine r_istore_n dX3_run_93 (Nat.le_of_ble_eq_true rfl) ?_
      first | refine r_aload_n dX3_run_94 rfl ?_ | refine r_aload_nq dX3_run_94 rfl ?_ | refine r_aload_nN dX3_run_94 rfl ?_
      refine r_invV dX3_run_95 (sp_X3_carries hi hT hKC (T := T) a7 (by rw [e0]; exact IV_inv hI) h51 htd) rfl mo_X3_carries (Or.inl (m_o hi)) rfl (lkA q2157) (lkA q2159) (lkA qs57) rfl (lkA q82) mp_X3_carries (Nat.le_of_ble_eq_true rfl) (Nat.le_of_ble_eq_true rfl) (Nat.le_of_ble_eq_true rfl) (kr_e ?_) kx_e
      rw [e0]
      have hm : (∃ x w2, dO (S 0) a = oK x w2) ∨ ∀ x w2, dO (S 0) a ≠ oK x w2 := by
        cases e : dO (S 0) a with
        | inl c => exact Or.inr fun x w2 e2 => oC_ne e2
        | inr r =>
          cases r with
          | inl b => exact Or.inr fun x w2 e2 => oR_ne (a := b.1) (b := b.2) e2
          | inr b => exact Or.inl ⟨b.1, b.2, rfl⟩
      rcases hm with ⟨x, w2, hk⟩ | hk
      · have hm1 : (mres S1 (dO (S 0) a)).1 = 0 := by rw [hk]; rfl
        have hm2 : (mres S1 (dO (S 0) a)).2 = ss (sa S1 0 w2) 8 x := by rw [hk]; rfl
        rw [hm1, hm2]
        have hat2 : ss (sa S1 0 w2) 8 x 7 4 = nI (pO T p).1 := (ss_o (by decide)).trans hat1
        refine r_istore_n dX3_run_98 (Nat.le_of_ble_eq_true rfl) ?_
        refine r_iload_n dX3_run_99 rfl ?_
        refine r_if_ne 106 dX3_run_100 rfl (fun c100 => absurd c100 (by decide)) (fun c100 => ?_)
        refine r_inc 1 dX3_run_103 rfl rfl (Nat.le_of_ble_eq_true rfl) ?_
        refine r_iload_n dX3_run_106 rfl ?_
        refine r_if_ne 123 dX3_run_107 rfl (fun c107 => absurd c107 (by decide)) (fun c107 => ?_)
        first | refine r_aload_n dX3_run_110 rfl ?_ | refine r_aload_nq dX3_run_110 rfl ?_ | refine r_aload_nN dX3_run_110 rfl ?_
        refine r_ldcS dX3_run_111 (show Str G "BrushSellersModel" 202 ";" (ka 19) from hKC.1 33 (Nat.le_of_ble_eq_true rfl)) ?_
        refine r_invV dX3_run_113 (sp_sgX hi hT hKC (k := 19) (c := 59) (by decide) rfl (MT_X hMB (mX_K hX1)) hat2 hp1 mF_r) rfl mo_X3_word (Or.inl (m_o hi)) rfl (lkA q2132) (lkA q2134) (lkA qs54) rfl (lkA q82) mp_X3_word (Nat.le_of_ble_eq_true rfl) (Nat.le_of_ble_eq_true rfl) (Nat.le_of_ble_eq_true rfl) (kr_r (fun v9 h9 p9 => ?_)) kx_r
        obtain ⟨rfl, S3, rfl, hF3, hat3, h53, h63⟩ := p9
        have hX3 := mX_F (mX_K (w := w2) (x := x) hX1) hF3
        have e30 : S3 0 = w2 := (hF3.1 0 (by decide) (by decide)).trans ((ss_ar (by decide)).trans sa_s)
        refine r_if_eq 123 dX3_run_116 rfl (fun c116 => ?_) (fun c116 => ?_)
        · refine r_iconst (v := 0) dX3_run_123 rfl ?_
          refine r_istore dX3_run_124 (Nat.le_of_ble_eq_true rfl) ?_
          refine r_goto 84 dX3_run_126 rfl ?_
          have n59 := of_decide_eq_false (bi_0.mp c116)
          obtain ⟨e59, -⟩ | ⟨-, -, hos⟩ := pT_split ht
          · exact absurd e59 n59
          subst hos
          have hr2 : res = oK (nI (n + 1)) w2 := by
            rw [hr, dL_k hk]
            rfl
          refine r_iload dX3_run_84 rfl ?_
          refine r_if_eq 129 dX3_run_86 rfl (fun c86 => ?_) (fun c86 => absurd c86 (fun e => e rfl))
          first | refine r_aload_n dX3_run_129 rfl ?_ | refine r_aload_nq dX3_run_129 rfl ?_ | refine r_aload_nN dX3_run_129 rfl ?_
          refine r_iconst (v := 0) dX3_run_130 rfl ?_
          refine r_put 3 9 dX3_run_131 rfl (Nat.le_of_ble_eq_true rfl) (lkA q1899) (Or.inl rfl) rfl (m_o hi) (by dsimp only [List.set]) (Nat.le_of_ble_eq_true rfl) rfl rfl (m_s3 hi) ?_
          refine r_iload_n dX3_run_134 rfl ?_
          refine r_if_ne 144 dX3_run_135 rfl (fun c135 => absurd c135 (by decide)) (fun c135 => ?_)
          first | refine r_aload_n dX3_run_138 rfl ?_ | refine r_aload_nq dX3_run_138 rfl ?_ | refine r_aload_nN dX3_run_138 rfl ?_
          refine r_iload_n dX3_run_139 rfl ?_
          refine r_invV dX3_run_140 (sp_X3_keeps hi u (by rw [ss_o (by decide), hX3.2 0 (by decide) (by decide) (by decide)]; exact hu) hu8) rfl mo_X3_keeps (Or.inl (m_o hi)) rfl (lkA q1954) (lkA q1956) (lkA qs32) rfl (lkA q82) mp_X3_keeps (Nat.le_of_ble_eq_true rfl) (Nat.le_of_ble_eq_true rfl) (Nat.le_of_ble_eq_true rfl) (kr_e ?_) kx_e
          exact r_ireturn dX3_run_143 rfl (by first | rfl | exact bi_nar) (by
            rw [hr2, ← nI_succ]
            refine mE_K rfl ?_ ?_ ?_ ?_ ?_ ?_ (fun k hk8 hk4 hk5 => ?_)
            · rw [ss_ar (by decide)]; exact e30
            · rw [ss_ar (by decide), hX3.1 1 (by decide) (by decide) (by decide)]; exact sa_s
            · rw [ss_ar (by decide), hX3.1 2 (by decide) (by decide) (by decide)]; rfl
            · rw [ss_ar (by decide), hX3.1 3 (by decide) (by decide) (by decide)]; rfl
            · rw [ss_ar (by decide), hX3.1 4 (by decide) (by decide) (by decide)]; rfl
            · rw [ss_ar (by decide), hX3.1 5 (by decide) (by decide) (by decide)]; rfl
            · by_cases e3 : k = 3
              · rw [e3, ss_at, ss_at]
              · rw [ss_o e3, ss_o e3, hX3.2 k hk4 hk5 (by omega)]; rfl)
        · refine r_iconst (v := 1) dX3_run_119 rfl ?_
          refine r_goto 124 dX3_run_120 rfl ?_
          refine r_istore dX3_run_124 (Nat.le_of_ble_eq_true rfl) ?_
          refine r_goto 84 dX3_run_126 rfl ?_
          have e59 := of_decide_eq_true (bi_n0.mp c116)
          rw [if_pos e59] at hat3
          have hl59 := here_e e59 (by decide)
          obtain ⟨-, f2, a2, os2, rfl, rfl, h2, h3⟩ | ⟨n59, -⟩ := pT_split ht
          · rw [dL_k hk] at hr
            refine V_loc (L' := [(4, .int 1), (3, .int 0), (2, .int (nI n + 1)), (1, .int (bi (pO T p).2.isSome)), (0, .ref (A 7))]) ⟨rfl, rfl, rfl, rfl, rfl, trivial⟩ ?_
            rw [← nI_succ]
            refine ih os2 rfl a2 f2 ((pO T p).1 + 1) (n + 1) S3 _ _ hX3 hat3 hl59 h2 h3 ?_ (by have : n + (os2.length + 1) ≤ 61 := hn61; omega) (by rw [e30]; exact hr)
            rw [e30, show D9 + ((n + 1 : Nat) : Int) = D9 + (n : Int) + 1 by omega]
            exact (hPI _ _ _ _ _ hlt hI hk).1
          · exact absurd e59 n59
      · have hno := mres_n (S := S1) hk
        have hr2 : res = oR 14 (nI n) := by
          rw [hr, dL_n hk]
          rfl
        have hmx := mres_X (S := S1) (r := dO (S 0) a)
        have g1 : ∀ i, i ≠ 0 → i ≠ 6 → i ≠ 7 → (mres S1 (dO (S 0) a)).2 i = SBm SE i := fun i h0 h6 h7 => (hmx.1 i h0 h7).trans (hX1.1 i h0 h6 h7)
        have g2 : ∀ j, j ≠ 4 → j ≠ 5 → j ≠ 6 → j ≠ 7 → j ≠ 8 → (mres S1 (dO (S 0) a)).2 7 j = SE 7 j := fun j h4 h5 h6 h7 h8 => (hmx.2 j h6 h7 h8).trans (hX1.2 j h4 h5 h8)
        generalize hS2 : (mres S1 (dO (S 0) a)).2 = S2 at g1 g2 ⊢
        refine r_istore_n dX3_run_98 (Nat.le_of_ble_eq_true rfl) ?_
        refine r_iload_n dX3_run_99 rfl ?_
        refine r_if_ne 106 dX3_run_100 rfl (fun c100 => ?_) (fun c100 => absurd c100 hno)
        refine r_iload_n dX3_run_106 rfl ?_
        refine r_if_ne 123 dX3_run_107 rfl (fun c107 => ?_) (fun c107 => absurd c107 hno)
        refine r_iconst (v := 0) dX3_run_123 rfl ?_
        refine r_istore dX3_run_124 (Nat.le_of_ble_eq_true rfl) ?_
        refine r_goto 84 dX3_run_126 rfl ?_
        refine r_iload dX3_run_84 rfl ?_
        refine r_if_eq 129 dX3_run_86 rfl (fun c86 => ?_) (fun c86 => absurd c86 (fun e => e rfl))
        first | refine r_aload_n dX3_run_129 rfl ?_ | refine r_aload_nq dX3_run_129 rfl ?_ | refine r_aload_nN dX3_run_129 rfl ?_
        refine r_iconst (v := 0) dX3_run_130 rfl ?_
        refine r_put 3 9 dX3_run_131 rfl (Nat.le_of_ble_eq_true rfl) (lkA q1899) (Or.inl rfl) rfl (m_o hi) (by dsimp only [List.set]) (Nat.le_of_ble_eq_true rfl) rfl rfl (m_s3 hi) ?_
        refine r_iload_n dX3_run_134 rfl ?_
        refine r_if_ne 144 dX3_run_135 rfl (fun c135 => ?_) (fun c135 => absurd c135 hno)
        first | refine r_aload_n dX3_run_144 rfl ?_ | refine r_aload_nq dX3_run_144 rfl ?_ | refine r_aload_nN dX3_run_144 rfl ?_
        refine r_invV dX3_run_145 (sp_X3_comesBack hi) rfl mo_X3_comesBack (Or.inl (m_o hi)) rfl (lkA q2161) (lkA q2163) (lkA qs58) rfl (lkA q82) mp_X3_comesBack (Nat.le_of_ble_eq_true rfl) (Nat.le_of_ble_eq_true rfl) (Nat.le_of_ble_eq_true rfl) (kr_e ?_) kx_e
        first | refine r_aload_n dX3_run_148 rfl ?_ | refine r_aload_nq dX3_run_148 rfl ?_ | refine r_aload_nN dX3_run_148 rfl ?_
        refine r_bipush (v := 14) dX3_run_149 rfl ?_
        refine r_iload_n dX3_run_151 rfl ?_
        refine r_invV dX3_run_152 (sp_X3_refuses hi) rfl mo_X3_refuses (Or.inl (m_o hi)) rfl (lkA q1950) (lkA q1952) (lkA qs31) rfl (lkA q82) mp_X3_refuses (Nat.le_of_ble_eq_true rfl) (Nat.le_of_ble_eq_true rfl) (Nat.le_of_ble_eq_true rfl) (kr_e ?_) kx_e
        refine V_cong (m_a0 hi) (g := SE 0) (fun j hj => ?_) ?_
        · rw [ss_ar (by decide), ss_ar (by decide), sa_s]
          unfold cpN
          rw [if_pos hj, ss_ar (by decide), g1 1 (by decide) (by decide) (by decide)]
          show cpN 413 (SE 0) (SE 1) j = SE 0 j
          unfold cpN
          rw [if_pos hj]
        rw [m_w0 hi]
        exact r_ireturn dX3_run_155 rfl (by first | rfl | exact bi_nar) (by
            rw [hr2]
            exact ⟨rfl, _, rfl, mE_fail g1 g2⟩)
  exact fun os => main os.length os rfl

set_option maxHeartbeats 4000000 in
set_option maxRecDepth 100000 in
theorem run_54m {G : GG} {A : Nat → Nat} {S : Nat → Nat → Int32} {h : HP} (hi : inj 8 mdom A) (hT : KT G) {ka : Nat → Nat} (hKC : KC G ka) {T : List Int32} (hM : MT S T) (u : Nat) (hu : (S 7 0).toInt = (u : Int)) (hu8 : u ≤ 8) (hPI : PI) {D9 : Int} (hD : D9 ≤ 90000) (hI : IV D9 (S 0)) {S' : Nat → Nat → Int32} (hF : mF (SBm S) S') (hat : S' 7 4 = nI (pR T (T.length + 1) 0).1) : V G 7 M_X3_run 54 [(1, .int (bi (pR T (T.length + 1) 0).2.isSome)), (0, .ref (A 7))] [] (ov (mdH A S') h) 0 (mPubQ A (ss S 3 0) h (rnR (S 0) T)) := by
  have hMB : MT (SBm S) T := hM
  cases e : (pR T (T.length + 1) 0).2 with
  | none =>
    refine r_iload_n dX3_run_54 rfl ?_
    refine r_if_ne 72 dX3_run_55 rfl (fun c55 => absurd c55 (by decide)) (fun c55 => ?_)
    first | refine r_aload_n dX3_run_58 rfl ?_ | refine r_aload_nq dX3_run_58 rfl ?_ | refine r_aload_nN dX3_run_58 rfl ?_
    refine r_iconst (v := 0) dX3_run_59 rfl ?_
    refine r_put 3 9 dX3_run_60 rfl (Nat.le_of_ble_eq_true rfl) (lkA q1899) (Or.inl rfl) rfl (m_o hi) (by dsimp only [List.set]) (Nat.le_of_ble_eq_true rfl) rfl rfl (m_s3 hi) ?_
    refine r_sipush (v := (-1000)) dX3_run_63 rfl ?_
    first | refine r_aload_n dX3_run_66 rfl ?_ | refine r_aload_nq dX3_run_66 rfl ?_ | refine r_aload_nN dX3_run_66 rfl ?_
    refine r_getfield 3 10 dX3_run_67 rfl (Nat.le_of_ble_eq_true rfl) (lkA q1900) (Or.inl rfl) (Or.inl (m_o hi)) (congrArg (fun z => some (Value.int z)) ((ss_o (by decide)).trans hat)) ?_
    refine r_isub dX3_run_70 ?_
    exact r_ireturn dX3_run_71 rfl (by first | rfl | exact bi_nar) (by
      rw [rn_n e]
      refine ⟨rfl, _, rfl, ?_, ?_, ?_, ?_, ?_, ?_, ?_, ?_, ?_, ?_, ?_⟩
      · rw [ss_ar (by decide), hF.1 0 (by decide) (by decide)]; rfl
      · rw [ss_ar (by decide), hF.1 2 (by decide) (by decide)]; rfl
      · rw [ss_ar (by decide), hF.1 3 (by decide) (by decide)]; rfl
      · rw [ss_ar (by decide), hF.1 4 (by decide) (by decide)]; rfl
      · rw [ss_ar (by decide), hF.1 5 (by decide) (by decide)]; rfl
      · rw [ss_o (by decide), hF.2 0 (by decide) (by decide)]; exact (ss_o (S := S) (k := 3) (v := 0) (show 0 ≠ 3 by decide)).symm
      · rw [ss_o (by decide), hF.2 1 (by decide) (by decide)]; exact (ss_o (S := S) (k := 3) (v := 0) (show 1 ≠ 3 by decide)).symm
      · rw [ss_o (by decide), hF.2 2 (by decide) (by decide)]; exact (ss_o (S := S) (k := 3) (v := 0) (show 2 ≠ 3 by decide)).symm
      · rw [ss_at]; exact (ss_at (S := S) (k := 3) (v := 0)).symm
      · rw [ss_o (by decide), hF.2 6 (by decide) (by decide)]; exact (ss_o (S := S) (k := 3) (v := 0) (show 6 ≠ 3 by decide)).symm
      · rw [ss_o (by decide), hF.2 7 (by decide) (by decide)]; exact (ss_o (S := S) (k := 3) (v := 0) (show 7 ≠ 3 by decide)).symm)
  | some os9 =>
    have h9 := pR_7 _ _ _ e
    have hT60 := hM.2.1
    have e9 := e
    rw [pR_s] at e9
    obtain ⟨a, ha, h2⟩ := pb_some e9
    obtain ⟨os, hos, h3⟩ := pb_some h2
    have e2 : a :: os = os9 := Option.some.inj h3
    have hl9 : os.length + 1 = os9.length := by rw [← e2]; rfl
    refine r_iload_n dX3_run_54 rfl ?_
    refine r_if_ne 72 dX3_run_55 rfl (fun c55 => ?_) (fun c55 => absurd c55 (show ¬ bi true = 0 by decide))
    first | refine r_aload_n dX3_run_72 rfl ?_ | refine r_aload_nq dX3_run_72 rfl ?_ | refine r_aload_nN dX3_run_72 rfl ?_
    refine r_iconst (v := 0) dX3_run_73 rfl ?_
    refine r_put 3 10 dX3_run_74 rfl (Nat.le_of_ble_eq_true rfl) (lkA q1900) (Or.inl rfl) rfl (m_o hi) (by dsimp only [List.set]) (Nat.le_of_ble_eq_true rfl) rfl rfl (m_s4 hi) ?_
    refine r_iconst (v := 0) dX3_run_77 rfl ?_
    refine r_istore_n dX3_run_78 (Nat.le_of_ble_eq_true rfl) ?_
    refine r_iconst (v := 0) dX3_run_79 rfl ?_
    refine r_istore_n dX3_run_80 (Nat.le_of_ble_eq_true rfl) ?_
    refine r_iconst (v := 1) dX3_run_81 rfl ?_
    refine r_istore dX3_run_82 (Nat.le_of_ble_eq_true rfl) ?_
    have hX : mX (SBm S) (ss S' 4 0) := mX_F ⟨fun _ _ _ _ => rfl, fun _ _ _ _ => rfl⟩ (mF_4 hF)
    have e0 : ss S' 4 0 0 = S 0 := (ss_ar (by decide)).trans (hF.1 0 (by decide) (by decide))
    refine V_loc (L' := [(4, .int 1), (3, .int 0), (2, .int (nI 0)), (1, .int (bi (some os9).isSome)), (0, .ref (A 7))]) ⟨rfl, rfl, rfl, rfl, rfl, trivial⟩ ?_
    exact lp_mexec hi hT hKC hMB u hu hu8 hPI hD _ os a T.length 0 0 (ss S' 4 0) _ _ hX (show ss S' 4 0 7 4 = nI 0 from ss_at) (Nat.zero_le _) ha hos (by rw [e0, show D9 + ((0 : Nat) : Int) = D9 by omega]; exact hI) (by omega) (by rw [e0, rn_s e, ← e2])

theorem pR_tail {T : List Int32} {a : Ord1} (ha : (pO T 0).2 = some a) : (pR T (T.length + 1) 0).1 = (pT T T.length (pO T 0).1).1 ∧ (pR T (T.length + 1) 0).2.isSome = (pT T T.length (pO T 0).1).2.isSome := by
  rw [pR_s, pb_s ha]
  cases e : (pT T T.length (pO T 0).1).2 with
  | none => rw [pb_n e]; exact ⟨rfl, rfl⟩
  | some os => rw [pb_s e]; exact ⟨rfl, rfl⟩
set_option maxHeartbeats 4000000 in
set_option maxRecDepth 100000 in
theorem sp_X3_run {G : GG} {A : Nat → Nat} {S : Nat → Nat → Int32} {h : HP} (hi : inj 8 mdom A) (hT : KT G) {ka : Nat → Nat} (hKC : KC G ka) {T : List Int32} (hM : MT S T) (u : Nat) (hu : (S 7 0).toInt = (u : Int)) (hu8 : u ≤ 8) (hPI : PI) {D9 : Int} (hD : D9 ≤ 90000) (hI : IV D9 (S 0))  : Ct G 7 0 M_X3_run [.ref (A 7)] (ov (mdH A S) h) (mPubQ A (ss S 3 0) h (rnR (S 0) T)) := by
  refine ct_intro my_X3_run (Nat.le_of_ble_eq_true rfl) ?_
  have hMB : MT (SBm S) T := hM
  first | refine r_aload_n dX3_run_0 rfl ?_ | refine r_aload_nq dX3_run_0 rfl ?_ | refine r_aload_nN dX3_run_0 rfl ?_
  refine r_invV dX3_run_1 (sp_X3_tries hi) rfl mo_X3_tries (Or.inl (m_o hi)) rfl (lkA q1943) (lkA q1945) (lkA qs30) rfl (lkA q82) mp_X3_tries (Nat.le_of_ble_eq_true rfl) (Nat.le_of_ble_eq_true rfl) (Nat.le_of_ble_eq_true rfl) (kr_e ?_) kx_e
  first | refine r_aload_n dX3_run_4 rfl ?_ | refine r_aload_nq dX3_run_4 rfl ?_ | refine r_aload_nN dX3_run_4 rfl ?_
  refine r_iconst (v := 0) dX3_run_5 rfl ?_
  refine r_put 3 10 dX3_run_6 rfl (Nat.le_of_ble_eq_true rfl) (lkA q1900) (Or.inl rfl) rfl (m_o hi) (by dsimp only [List.set]) (Nat.le_of_ble_eq_true rfl) rfl rfl (m_s4 hi) ?_
  first | refine r_aload_n dX3_run_9 rfl ?_ | refine r_aload_nq dX3_run_9 rfl ?_ | refine r_aload_nN dX3_run_9 rfl ?_
  refine r_invV dX3_run_10 (sp_X3_isOrder hi hT hKC (MT_4 hMB (by decide)) (show ss (SBm S) 4 0 7 4 = nI 0 from ss_at) (Nat.zero_le _) (mF_4 mF_r) hMB) rfl mo_X3_isOrder (Or.inl (m_o hi)) rfl (lkA q2127) (lkA q2129) (lkA qs53) rfl (lkA q82) mp_X3_isOrder (Nat.le_of_ble_eq_true rfl) (Nat.le_of_ble_eq_true rfl) (Nat.le_of_ble_eq_true rfl) (kr_r (fun v9 h9 p9 => ?_)) kx_r
  obtain ⟨rfl, S1, rfl, hF1, hat1, hv1⟩ := p9
  refine r_istore_n dX3_run_13 (Nat.le_of_ble_eq_true rfl) ?_
  cases e : (pO T 0).2 with
  | none =>
    have e9 : pR T (T.length + 1) 0 = ((pO T 0).1, none) := by rw [pR_s, pb_n e]
    refine r_iload_n dX3_run_14 rfl ?_
    refine r_if_eq 54 dX3_run_15 rfl (fun c15 => ?_) (fun c15 => absurd c15 (fun e => e rfl))
    refine V_loc (L' := [(1, .int (bi (pR T (T.length + 1) 0).2.isSome)), (0, .ref (A 7))]) ⟨by rw [e9]; rfl, rfl, trivial⟩ ?_
    exact run_54m hi hT hKC hM u hu hu8 hPI hD hI hF1 (by rw [e9]; exact hat1)
  | some a =>
    obtain ⟨t1, t2⟩ := pR_tail e
    refine V_loc (L' := [(1, .int 1), (0, .ref (A 7))]) ⟨rfl, rfl, trivial⟩ ?_
    exact lp_mparse hi hT hKC hMB T.length (pO T 0).1 S1 (MT_F hMB hF1) hat1 hF1 (pO_le (Nat.zero_le _)).2 (by omega) (fun S3 g1 g2 => by
      have := run_54m (G := G) (h := h) hi hT hKC hM u hu hu8 hPI hD hI g1 (by rw [t1]; exact g2)
      rw [t2] at this
      exact this)

