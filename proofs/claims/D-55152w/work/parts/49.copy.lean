set_option maxRecDepth 100000
theorem ow_inh {k i : Nat} (hk : k < 20) (h1 : 53 + 4 * k ≤ i) (h2 : i < 53 + 4 * k + 4) : owr i = 10 + k ∨ owr i = 30 + k := by
  obtain ⟨m, rfl⟩ : ∃ m, i = 53 + 4 * k + m := ⟨i - (53 + 4 * k), by omega⟩
  by_cases hm : m < 3
  · exact Or.inl (ow_h m hk hm)
  · obtain rfl : m = 3 := by omega
    exact Or.inr (ow_b hk)
theorem key_h {j k : Nat} (hk : k < 20) (hj : j < 160) (e : 10 + k = key j ∨ 30 + k = key j) : j = 10 + k ∨ j = 30 + k ∨ j = 50 + k := by
  unfold key at e
  by_cases c1 : 50 ≤ j ∧ j < 70
  · rw [if_pos c1] at e; omega
  · rw [if_neg c1] at e
    by_cases c2 : j = 4
    · rw [if_pos c2] at e; omega
    · rw [if_neg c2] at e
      by_cases c3 : 80 ≤ j ∧ j % 2 = 1
      · rw [if_pos c3] at e; omega
      · rw [if_neg c3] at e; omega
theorem re_house {H : HP} {ad : Nat → Nat} {W W' : Nat → Int32} {i q kk m : Nat} (hi : i < 20) (hI : cI ad W) (hS : St H ad W) (hq : H q = none) (hkk : H kk = none) (hm : H m = none) (e1 : m ≠ kk) (e2 : m ≠ q) (e3 : kk ≠ q) (w2 : W' 2 = W 2) (w3 : W' 3 = W 3) (eo : ∀ j, ¬ (53 + 4 * i ≤ j ∧ j < 53 + 4 * i + 4) → W' j = W j) : ∃ ad' : Nat → Nat, (∀ j, j ≠ 10 + i → j ≠ 30 + i → j ≠ 50 + i → ad' j = ad j) ∧ ad' (10 + i) = q ∧ ad' (30 + i) = kk ∧ ad' (50 + i) = m ∧ cI ad' W' ∧ St (hu (hu (hu (hu H m (bWd (W' (53 + 4 * i + 3)))) kk (bBs m (W' (53 + 4 * i + 3)))) q (bO 2 [.int (nI i), .int (W' (53 + 4 * i)), .int (gDg W' i), .int (W' (53 + 4 * i + 2)), .ref kk])) (ad 2) (bR 3 20 (va_up (fHs ad 20) i (some q)))) ad' W' := by
  have fr : ∀ v, H v = none → ∀ j, j < 160 → cdom W j = true → ad j ≠ v := fun v hv j hj hd e => by
    have := hS j hj hd
    rw [e, hv] at this
    cases this
  have d2 : cdom W 2 = true := cdm_i (by omega)
  generalize hA : upN (upN (upN ad (10 + i) q) (30 + i) kk) (50 + i) m = ad'
  have ea : ∀ j, j ≠ 10 + i → j ≠ 30 + i → j ≠ 50 + i → ad' j = ad j := fun j h1 h2 h3 => by rw [← hA, upN_n h3, upN_n h2, upN_n h1]
  have a1 : ad' (10 + i) = q := by rw [← hA, upN_n (by omega), upN_n (by omega), upN_s]
  have a3 : ad' (30 + i) = kk := by rw [← hA, upN_n (by omega), upN_s]
  have a5 : ad' (50 + i) = m := by rw [← hA, upN_s]
  have ed : cdom W' = cdom W := by rw [cdom, w2, w3]
  refine ⟨ad', ea, a1, a3, a5, by rw [← hA, cI, ed]; exact inj_3 hI (fr q hq) (fr kk hkk) (fr m hm) (Ne.symm e3) (Ne.symm e2) (Ne.symm e1) (fun j _ h _ _ _ => h), fun j hj hd => ?_⟩
  rw [ed] at hd
  by_cases j1 : j = 10 + i
  · subst j1
    rw [a1, hu_n (Ne.symm (fr q hq 2 (by decide) d2)), hu_s, cc_h hi, cHo, a3]
  · by_cases j3 : j = 30 + i
    · subst j3
      rw [a3, hu_n (Ne.symm (fr kk hkk 2 (by decide) d2)), hu_n e3, hu_s, cc_b hi, a5]
    · by_cases j5 : j = 50 + i
      · subst j5
        rw [a5, hu_n (Ne.symm (fr m hm 2 (by decide) d2)), hu_n e2, hu_n e1, hu_s, cc_w hi]
      · rw [ea j j1 j3 j5]
        by_cases k2 : j = 2
        · subst k2
          rw [hu_s, cc_2]
          congr 1
          congr 1
          congr 1
          congr 1
          congr 1
          congr 1
          funext p
          by_cases p1 : p = i
          · subst p1
            rw [va_up_s, fHs_at hi, a1]
          · rw [va_up_n p1]
            unfold fHs
            by_cases p2 : p < 20
            · rw [if_pos p2, if_pos p2, ea (10 + p) (by omega) (by omega) (by omega)]
            · rw [if_neg p2, if_neg p2]
        · rw [hu_n (fun e => k2 (hI j 2 hj (by decide) hd d2 e)), hu_n (fr q hq j hj hd), hu_n (fr kk hkk j hj hd), hu_n (fr m hm j hj hd), hS j hj hd]
          refine congrArg some (ccell_re hj hd (fun x hu => (ea x ?_ ?_ ?_).symm) (fun x ho => (eo x ?_).symm))
          · rintro rfl
            unfold cuse at hu
            have := cdm_e hd
            omega
          · rintro rfl
            unfold cuse at hu
            have := cdm_e hd
            omega
          · rintro rfl
            unfold cuse at hu
            have := cdm_e hd
            omega
          · rintro ⟨b1, b2⟩
            rcases ow_inh hi b1 b2 with h9 | h9
            · rw [h9] at ho
              have := key_h hi hj (Or.inl ho)
              omega
            · rw [h9] at ho
              have := key_h hi hj (Or.inr ho)
              omega
theorem St_hu {H : HP} {ad : Nat → Nat} {w : Nat → Int32} {q : Nat} {b : Bd} (hS : St H ad w) (hq : cF ad w q = none) : St (hu H q b) ad w := fun k hk hd => by
  rw [hu_n (fam_no hq hk hd)]
  exact hS k hk hd
theorem Ext_hu {h H : HP} {q : Nat} {b : Bd} (hx : Ext h H) (hq : h q = none) : Ext h (hu H q b) := fun x y hy => by
  rw [hu_n (ne_o hq hy)]
  exact hx x y hy
/-- what a copy that is being made is -/
def CP (H0 : HP) (q0 : Nat) (ad2 : Nat → Nat) (W : Nat → Int32) (H : HP) : Prop := ad2 0 = q0 ∧ cI ad2 W ∧ (∀ j, j < 160 → cdom W j = true → H0 (ad2 j) = none) ∧ St H ad2 W ∧ Ext H0 H
def xA (w : Nat → Int32) (i : Nat) : Nat → Int32 := fun j => if 53 ≤ j ∧ j < 53 + 4 * i then w j else wI 3 j
def xB (w : Nat → Int32) (s : Nat) : Nat → Int32 := fun j => if 53 ≤ j ∧ j < 133 then w j else if j = 2 then nI s else if 17 ≤ j ∧ j < 17 + 9 * s then w j else wI 3 j
def xC (w : Nat → Int32) (k : Nat) : Nat → Int32 := fun j => if 53 ≤ j ∧ j < 133 then w j else if j = 2 then w 2 else if j = 3 then nI k else if 17 ≤ j ∧ j < 17 + 9 * tn (w 2) then w j else if 133 ≤ j ∧ j < 133 + 7 * k then w j else wI 3 j
theorem xA_0 {w : Nat → Int32} : xA w 0 = wI 3 := by
  funext j
  unfold xA
  rw [if_neg (by omega)]
theorem xA_2 {w : Nat → Int32} {i j : Nat} (hj : j < 53) : xA w i j = wI 3 j := if_neg (by omega)
theorem xA_h {w : Nat → Int32} {i m : Nat} (hm : m < 4) : xA w (i + 1) (53 + 4 * i + m) = w (53 + 4 * i + m) := if_pos (by omega)
theorem xA_o {w : Nat → Int32} {i j : Nat} (hj : ¬ (53 + 4 * i ≤ j ∧ j < 53 + 4 * i + 4)) : xA w (i + 1) j = xA w i j := by
  unfold xA
  by_cases e : 53 ≤ j ∧ j < 53 + 4 * i
  · rw [if_pos (by omega), if_pos e]
  · rw [if_neg (by omega), if_neg e]
theorem xA_B {w : Nat → Int32} : xA w 20 = xB w 0 := by
  funext j
  unfold xA xB
  by_cases e : 53 ≤ j ∧ j < 133
  · rw [if_pos e, if_pos e]
  · rw [if_neg e, if_neg e]
    by_cases e2 : j = 2
    · rw [if_pos e2, e2, wI_2 (by omega)]
      rfl
    · rw [if_neg e2, if_neg (by omega)]
theorem xB_2 {w : Nat → Int32} {s : Nat} : xB w s 2 = nI s := by
  unfold xB
  rw [if_neg (by omega), if_pos rfl]
theorem xB_3 {w : Nat → Int32} {s : Nat} : xB w s 3 = 0 := by
  unfold xB
  rw [if_neg (by omega), if_neg (by omega), if_neg (by omega), wI_3 (by omega)]
theorem xB_s {w : Nat → Int32} {s m : Nat} (hs : s < 4) (hm : m < 9) : xB w (s + 1) (17 + 9 * s + m) = w (17 + 9 * s + m) := by
  unfold xB
  rw [if_neg (by omega), if_neg (by omega), if_pos (by omega)]
theorem fBr_B {w : Nat → Int32} {s : Nat} (hs : s < 4) : fBr w s = fBr (xB w (s + 1)) s := by
  funext j
  unfold fBr
  by_cases hj : j < 3
  · rw [if_pos hj, if_pos hj, xB_s hs (by omega)]
  · rw [if_neg hj, if_neg hj]
theorem xB_o {w : Nat → Int32} {s i : Nat} (h2 : i ≠ 2) (hi : ¬ (17 + 9 * s ≤ i ∧ i < 17 + 9 * s + 9)) : xB w (s + 1) i = xB w s i := by
  unfold xB
  by_cases e : 53 ≤ i ∧ i < 133
  · rw [if_pos e, if_pos e]
  · rw [if_neg e, if_neg e, if_neg h2, if_neg h2]
    by_cases e2 : 17 ≤ i ∧ i < 17 + 9 * s
    · rw [if_pos (by omega), if_pos e2]
    · rw [if_neg (by omega), if_neg e2]
theorem xB_C {w : Nat → Int32} (h : (w 2).toInt = (tn (w 2) : Int)) : xB w (tn (w 2)) = xC w 0 := by
  funext j
  unfold xB xC
  by_cases e : 53 ≤ j ∧ j < 133
  · rw [if_pos e, if_pos e]
  · rw [if_neg e, if_neg e]
    by_cases e2 : j = 2
    · rw [if_pos e2, if_pos e2]
      exact (i32_of h).symm
    · rw [if_neg e2, if_neg e2]
      by_cases e3 : j = 3
      · rw [if_pos e3, if_neg (by omega), e3, wI_3 (by omega)]
        rfl
      · rw [if_neg e3]
        by_cases e4 : 17 ≤ j ∧ j < 17 + 9 * tn (w 2)
        · rw [if_pos e4, if_pos e4]
        · rw [if_neg e4, if_neg e4, if_neg (by omega)]
theorem xC_2 {w : Nat → Int32} {k : Nat} : xC w k 2 = w 2 := by
  unfold xC
  rw [if_neg (by omega), if_pos rfl]
theorem xC_3 {w : Nat → Int32} {k : Nat} : xC w k 3 = nI k := by
  unfold xC
  rw [if_neg (by omega), if_neg (by omega), if_pos rfl]
theorem xC_l {w : Nat → Int32} {k m : Nat} (h : tn (w 2) ≤ 4) (hm : m < 7) : xC w (k + 1) (133 + 7 * k + m) = w (133 + 7 * k + m) := by
  unfold xC
  rw [if_neg (by omega), if_neg (by omega), if_neg (by omega), if_neg (by omega), if_pos (by omega)]
theorem xC_o {w : Nat → Int32} {k i : Nat} (h3 : i ≠ 3) (hi : ¬ (133 + 7 * k ≤ i ∧ i < 140 + 7 * k)) : xC w (k + 1) i = xC w k i := by
  unfold xC
  by_cases e : 53 ≤ i ∧ i < 133
  · rw [if_pos e, if_pos e]
  · rw [if_neg e, if_neg e]
    by_cases e2 : i = 2
    · rw [if_pos e2, if_pos e2]
    · rw [if_neg e2, if_neg e2, if_neg h3, if_neg h3]
      by_cases e4 : 17 ≤ i ∧ i < 17 + 9 * tn (w 2)
      · rw [if_pos e4, if_pos e4]
      · rw [if_neg e4, if_neg e4]
        by_cases e5 : 133 ≤ i ∧ i < 133 + 7 * k
        · rw [if_pos (by omega), if_pos e5]
        · rw [if_neg (by omega), if_neg e5]
/-- the places that the cells of a state show, but for the company's own and the depot -/
theorem owr_in {w : Nat → Int32} {k i : Nat} (hk : k < 160) (hd : cdom w k = true) (h0 : k ≠ 0) (h6 : k ≠ 6) (ho : owr i = key k) : i = 2 ∨ i = 3 ∨ (17 ≤ i ∧ i < 17 + 9 * tn (w 2)) ∨ (53 ≤ i ∧ i < 133) ∨ (133 ≤ i ∧ i < 133 + 7 * tn (w 3)) := by
  have hde := cdm_e hd
  by_cases c1 : i < 14
  · by_cases c2 : i = 2
    · exact Or.inl c2
    · by_cases c3 : i = 3
      · exact Or.inr (Or.inl c3)
      · exfalso
        by_cases c6 : i = 6 ∨ i = 7
        · have : owr i = 200 := by
            unfold owr
            rw [if_pos c1, if_neg c2, if_neg c3, if_pos c6]
          rw [this] at ho
          unfold key at ho
          (repeat' split at ho) <;> omega
        · have : owr i = 0 := by
            unfold owr
            rw [if_pos c1, if_neg c2, if_neg c3, if_neg c6]
          rw [this] at ho
          exact h0 (key_i (Or.inl rfl) ho)
  · by_cases c4 : i < 17
    · exfalso
      have : owr i = 6 := by
        unfold owr
        rw [if_neg c1, if_pos c4]
      rw [this] at ho
      exact h6 (key_i (Or.inr (Or.inl rfl)) ho)
    · by_cases c5 : i < 53
      · refine Or.inr (Or.inr (Or.inl ⟨by omega, Decidable.byContradiction fun hc => ?_⟩))
        obtain ⟨s, m, rfl, hm⟩ : ∃ s m, i = 17 + 9 * s + m ∧ m < 9 := ⟨(i - 17) / 9, (i - 17) % 9, by omega, by omega⟩
        rcases ow_ins (s := s) (i := 17 + 9 * s + m) (by omega) (by omega) (by omega) with h9 | h9
        · rw [h9] at ho
          have := key_i (by omega) ho
          omega
        · rw [h9] at ho
          have := key_i (by omega) ho
          omega
      · by_cases c6 : i < 133
        · exact Or.inr (Or.inr (Or.inr (Or.inl ⟨by omega, c6⟩)))
        · refine Or.inr (Or.inr (Or.inr (Or.inr ⟨by omega, Decidable.byContradiction fun hc => ?_⟩)))
          obtain ⟨s, m, rfl, hm⟩ : ∃ s m, i = 133 + 7 * s + m ∧ m < 7 := ⟨(i - 133) / 7, (i - 133) % 7, by omega, by omega⟩
          rw [ow_l m hm] at ho
          have := key_i (by omega) ho
          omega
theorem xC_in {w : Nat → Int32} {i : Nat} (h3 : (w 3).toInt = (tn (w 3) : Int)) (h : i = 2 ∨ i = 3 ∨ (17 ≤ i ∧ i < 17 + 9 * tn (w 2)) ∨ (53 ≤ i ∧ i < 133) ∨ (133 ≤ i ∧ i < 133 + 7 * tn (w 3))) (h4 : tn (w 2) ≤ 4) : xC w (tn (w 3)) i = w i := by
  rcases h with rfl | rfl | h | h | h
  · exact xC_2
  · rw [xC_3]; exact (i32_of h3).symm
  · unfold xC
    rw [if_neg (by omega), if_neg (by omega), if_neg (by omega), if_pos h]
  · unfold xC
    rw [if_pos h]
  · unfold xC
    rw [if_neg (by omega), if_neg (by omega), if_neg (by omega), if_neg (by omega), if_pos h]
/-- the last strokes of a copy -/
theorem copy_end {H : HP} {ad : Nat → Nat} {w : Nat → Int32} (h3 : (w 3).toInt = (tn (w 3) : Int)) (h4 : tn (w 2) ≤ 4) (hI : cI ad (xC w (tn (w 3)))) (hS : St H ad (xC w (tn (w 3)))) : cI ad w ∧ St (hu (hu H (ad 6) (bI 0 3 (fDp w))) (ad 0) (cCo ad w)) ad w := by
  have e2 : xC w (tn (w 3)) 2 = w 2 := xC_2
  have e3 : xC w (tn (w 3)) 3 = w 3 := by rw [xC_3]; exact (i32_of h3).symm
  have i1 : cI ad w := cI_e hI e2.symm e3.symm
  have ed : cdom (xC w (tn (w 3))) = cdom w := by rw [cdom, e2, e3]
  refine ⟨i1, fun k hk hd => ?_⟩
  have d0 : cdom w 0 = true := cdm_i (by omega)
  have d6 : cdom w 6 = true := cdm_i (by omega)
  by_cases k0 : k = 0
  · subst k0
    rw [hu_s, cc_0]
  · rw [hu_n (fun e => k0 (i1 k 0 hk (by decide) hd d0 e))]
    by_cases k6 : k = 6
    · subst k6
      rw [hu_s, cc_6]
    · rw [hu_n (fun e => k6 (i1 k 6 hk (by decide) hd d6 e)), hS k hk (by rw [ed]; exact hd)]
      exact congrArg some (ccell_cg hk (cdm_hj hd) (fun i ho => xC_in h3 (owr_in hk hd k0 k6 ho) h4))
theorem sp_J4_addLastQ {G : GG} {h : HP} {ad : Nat → Nat} {W : Nat → Int32} (hS : St h ad W) (hN3 : (W 3).toInt = (tn (W 3) : Int)) (h40 : tn (W 3) < 40) {qs : Nat} : Ct G 3 4 M_J4_addLast [.ref (ad 5), .ref qs] h (rQ (fun v h' => v = none ∧ ∃ qn, h qn = none ∧ addQ ad W h qs qn h')) := by
  rcases Nat.eq_zero_or_pos (tn (W 3)) with h0 | h0
  · refine (sp_J4_addLast0 (s_5 hS) hN3 h0).mono (fun u h' hq => ?_)
    rcases u with v | q
    · obtain ⟨rfl, q, hq, rfl⟩ := hq
      exact ⟨rfl, q, hq, Or.inl ⟨h0, rfl⟩⟩
    · exact hq.elim
  · obtain ⟨m, hm⟩ : ∃ m, tn (W 3) = m + 1 := ⟨tn (W 3) - 1, by omega⟩
    refine (sp_J4_addLast1 (s_5 hS) hN3 (m := m) hm (s_n hS m (by omega) (by omega))).mono (fun u h' hq => ?_)
    rcases u with v | q
    · obtain ⟨rfl, q, hq, rfl⟩ := hq
      exact ⟨rfl, q, hq, Or.inr ⟨m, hm, rfl⟩⟩
    · exact hq.elim
set_option maxHeartbeats 4000000 in
set_option maxRecDepth 100000 in
theorem cp_131 {G : GG} {h : HP} {ad : Nat → Nat} {w : Nat → Int32} (S0 : St h ad w) (i0 : cI ad w) (hw2 : (w 2).toInt = (tn (w 2) : Int)) (hw24 : tn (w 2) ≤ 4) (hw3 : (w 3).toInt = (tn (w 3) : Int)) (hw34 : tn (w 3) ≤ 40) (h6 : ∀ k, k < tn (w 3) → w (133 + 7 * k + 6) = 0 ∨ w (133 + 7 * k + 6) = 1) {H : HP} {ad2 : Nat → Nat} {q0 : Nat} (hC : CP h q0 ad2 (xC w (tn (w 3))) H) : V G 9 M_X1_copy 131 [(1, .ref q0), (0, .ref (ad 0))] [] H 0 (rQ (fun v h' => ∃ ad2 : Nat → Nat, v = some (.ref (ad2 0)) ∧ cI ad2 w ∧ (∀ j, j < 160 → cdom w j = true → h (ad2 j) = none) ∧ St h' ad2 w ∧ Ext h h')) := by
  obtain ⟨z0, zI, zf, zS, zx⟩ := hC
  have S1 : St H ad w := St_ext S0 zx
  have z00 : H q0 = some (cCo ad2 (xC w (tn (w 3)))) := by rw [← z0]; exact s_0 zS
  first | refine r_aload_n dX1_copy_131 rfl ?_ | refine r_aload_nq dX1_copy_131 rfl ?_ | refine r_aload_nN dX1_copy_131 rfl ?_
  refine r_getfield 1 3 dX1_copy_132 rfl (Nat.le_of_ble_eq_true rfl) (lkA q302) (Or.inl rfl) (Or.inl (s_0 S1)) (by rfl) ?_
  refine r_iconst (v := 0) dX1_copy_135 rfl ?_
  first | refine r_aload_n dX1_copy_136 rfl ?_ | refine r_aload_nq dX1_copy_136 rfl ?_ | refine r_aload_nN dX1_copy_136 rfl ?_
  refine r_getfield 1 3 dX1_copy_137 rfl (Nat.le_of_ble_eq_true rfl) (lkA q302) (Or.inl rfl) (Or.inl z00) (by rfl) ?_
  refine r_iconst (v := 0) dX1_copy_140 rfl ?_
  refine r_iconst (v := 3) dX1_copy_141 rfl ?_
  refine r_copy 0 0 3 dX1_copy_142 (Or.inl rfl) (lkA q1041) (lkA q294) (lkA q293) (lkA q76) (Or.inl (s_6 S1)) (s_6 zS) rfl rfl rfl (by decide) (by decide) (fun e => by cases e) (Nat.le_of_ble_eq_true rfl) (Nat.le_of_ble_eq_true rfl) ?_
  rw [cpy3 (f := fDp w) (g := fDp (xC w (tn (w 3)))) (fun j hj => if_neg (by omega)) (fun j hj => if_neg (by omega))]
  have n06 : ad2 0 ≠ ad2 6 := fun e => absurd (zI 0 6 (by decide) (by decide) (cdm_i (by omega)) (cdm_i (by omega)) e) (by decide)
  have n6 : ad 0 ≠ ad2 6 := ne_o (zf 6 (by decide) (cdm_i (by omega))) (s_0 S0)
  have n0 : ad 0 ≠ ad2 0 := ne_o (zf 0 (by decide) (cdm_i (by omega))) (s_0 S0)
  first | refine r_aload_n dX1_copy_145 rfl ?_ | refine r_aload_nq dX1_copy_145 rfl ?_ | refine r_aload_nN dX1_copy_145 rfl ?_
  first | refine r_aload_n dX1_copy_146 rfl ?_ | refine r_aload_nq dX1_copy_146 rfl ?_ | refine r_aload_nN dX1_copy_146 rfl ?_
  refine r_invV dX1_copy_147 (sp_X1_takesNumbers ((hu_n (by rw [← z0]; exact n06)).trans z00) ((hu_n n6).trans (s_0 S1)) (by rw [← z0]; exact n0)) rfl mo_X1_takesNumbers (Or.inl ((hu_n (by rw [← z0]; exact n06)).trans z00)) rfl (lkA q1042) (lkA q1044) (lkA qs12) rfl (lkA q65) mp_X1_takesNumbers (Nat.le_of_ble_eq_true rfl) (Nat.le_of_ble_eq_true rfl) (Nat.le_of_ble_eq_true rfl) (kr_e ?_) kx_e
  first | refine r_aload_n dX1_copy_150 rfl ?_ | refine r_aload_nq dX1_copy_150 rfl ?_ | refine r_aload_nN dX1_copy_150 rfl ?_
  first | exact r_areturn dX1_copy_151 rfl rfl (by
  subst z0
  obtain ⟨iE, SE⟩ := copy_end hw3 hw24 zI zS
  exact ⟨ad2, rfl, iE, fun j hj hd => zf j hj (by rw [cdom, xC_2, xC_3, ← i32_of hw3]; exact hd), SE, Ext_hu (Ext_hu zx (zf 6 (by decide) (cdm_i (by omega)))) (zf 0 (by decide) (cdm_i (by omega)))⟩) | exact r_areturnq dX1_copy_151 rfl rfl (by
  subst z0
  obtain ⟨iE, SE⟩ := copy_end hw3 hw24 zI zS
  exact ⟨ad2, rfl, iE, fun j hj hd => zf j hj (by rw [cdom, xC_2, xC_3, ← i32_of hw3]; exact hd), SE, Ext_hu (Ext_hu zx (zf 6 (by decide) (cdm_i (by omega)))) (zf 0 (by decide) (cdm_i (by omega)))⟩) | exact r_areturnN dX1_copy_151 rfl rfl (by
  subst z0
  obtain ⟨iE, SE⟩ := copy_end hw3 hw24 zI zS
  exact ⟨ad2, rfl, iE, fun j hj hd => zf j hj (by rw [cdom, xC_2, xC_3, ← i32_of hw3]; exact hd), SE, Ext_hu (Ext_hu zx (zf 6 (by decide) (cdm_i (by omega)))) (zf 0 (by decide) (cdm_i (by omega)))⟩)

theorem addQ_fr {ad : Nat → Nat} {W : Nat → Int32} {H H' : HP} {qs qn v : Nat} {y : Bd} (hA : addQ ad W H qs qn H') (hn : H qn = none) (h5 : v ≠ ad 5) (hm : ∀ m, tn (W 3) = m + 1 → v ≠ nd ad m) (hv : H v = some y) : H' v = some y := by
  rcases hA with ⟨-, rfl⟩ | ⟨m, e, rfl⟩
  · rw [hu_n h5, hu_n (ne_o hn hv), hv]
  · rw [hu_n (hm m e), hu_n h5, hu_n (ne_o hn hv), hv]
def cnum (b : Bd) : Nat := match b with
  | .inl p => p.1
  | .inr _ => 0
theorem cnum_c {ad : Nat → Nat} {w : Nat → Int32} {j : Nat} : cnum (ccell ad w j) < 16 ∨ cnum (ccell ad w j) = 18 := by
  unfold ccell
  by_cases h0 : j = 0
  · rw [if_pos h0]; exact Or.inl (Nat.le_of_ble_eq_true rfl)
  rw [if_neg h0]
  by_cases h1 : j = 1
  · rw [if_pos h1]; exact Or.inl (Nat.le_of_ble_eq_true rfl)
  rw [if_neg h1]
  by_cases h2 : j = 2
  · rw [if_pos h2]; exact Or.inl (Nat.le_of_ble_eq_true rfl)
  rw [if_neg h2]
  by_cases h3 : j = 3
  · rw [if_pos h3]; exact Or.inl (Nat.le_of_ble_eq_true rfl)
  rw [if_neg h3]
  by_cases h4 : j = 4
  · rw [if_pos h4]; exact Or.inl (Nat.le_of_ble_eq_true rfl)
  rw [if_neg h4]
  by_cases h5 : j = 5
  · rw [if_pos h5]; exact Or.inl (Nat.le_of_ble_eq_true rfl)
  rw [if_neg h5]
  by_cases h6 : j = 6
  · rw [if_pos h6]; exact Or.inl (Nat.le_of_ble_eq_true rfl)
  rw [if_neg h6]
  by_cases h7 : j < 30
  · rw [if_pos h7]; exact Or.inl (Nat.le_of_ble_eq_true rfl)
  rw [if_neg h7]
  by_cases h8 : j < 50
  · rw [if_pos h8]; exact Or.inl (Nat.le_of_ble_eq_true rfl)
  rw [if_neg h8]
  by_cases h9 : j < 70
  · rw [if_pos h9]; exact Or.inl (Nat.le_of_ble_eq_true rfl)
  rw [if_neg h9]
  by_cases h10 : j < 74
  · rw [if_pos h10]; exact Or.inl (Nat.le_of_ble_eq_true rfl)
  rw [if_neg h10]
  by_cases h11 : j < 78
  · rw [if_pos h11]; exact Or.inl (Nat.le_of_ble_eq_true rfl)
  rw [if_neg h11]
  by_cases h12 : j % 2 = 0
  · rw [if_pos h12]; exact Or.inl (Nat.le_of_ble_eq_true rfl)
  rw [if_neg h12]
  exact Or.inr rfl
theorem it17 {ad : Nat → Nat} {w : Nat → Int32} {j : Nat} {fs : List Value} (e : ccell ad w j = bO 17 fs) : False := by
  have h := cnum_c (ad := ad) (w := w) (j := j)
  rw [e] at h
  exact absurd h (show ¬ (17 < 16 ∨ 17 = 18) by decide)
theorem it16 {ad : Nat → Nat} {w : Nat → Int32} {j : Nat} {fs : List Value} (e : ccell ad w j = bO 16 fs) : False := by
  have h := cnum_c (ad := ad) (w := w) (j := j)
  rw [e] at h
  exact absurd h (show ¬ (16 < 16 ∨ 16 = 18) by decide)
set_option maxHeartbeats 4000000 in
set_option maxRecDepth 100000 in
theorem cp_98 {G : GG} {h : HP} {ad : Nat → Nat} {w : Nat → Int32} (S0 : St h ad w) (i0 : cI ad w) (hw2 : (w 2).toInt = (tn (w 2) : Int)) (hw24 : tn (w 2) ≤ 4) (hw3 : (w 3).toInt = (tn (w 3) : Int)) (hw34 : tn (w 3) ≤ 40) (h6 : ∀ k, k < tn (w 3) → w (133 + 7 * k + 6) = 0 ∨ w (133 + 7 * k + 6) = 1) {q0 qi : Nat} (hqi : h qi = none) : ∀ (k i : Nat) (H : HP) (ad2 : Nat → Nat) (x0 : Value), i + k = tn (w 3) → H qi = some (bO 17 [x0, va_rf (inx (nd ad) (tn (w 3)) i), .int (nI i), .int (w 3), .ref (ad 5)]) → CP h q0 ad2 (xC w i) H → V G 9 M_X1_copy 98 [(2, .ref qi), (1, .ref q0), (0, .ref (ad 0))] [] H (12 * k) (rQ (fun v h' => ∃ ad2 : Nat → Nat, v = some (.ref (ad2 0)) ∧ cI ad2 w ∧ (∀ j, j < 160 → cdom w j = true → h (ad2 j) = none) ∧ St h' ad2 w ∧ Ext h h')) := by
  intro k
  induction k with
  | zero =>
    intro i H ad2 x0 hk hq hC
    obtain rfl : i = tn (w 3) := by omega
    obtain ⟨z0, zI, zf, zS, zx⟩ := hC
    have S1 : St H ad w := St_ext S0 zx
    first | refine r_aload_n dX1_copy_98 rfl ?_ | refine r_aload_nq dX1_copy_98 rfl ?_ | refine r_aload_nN dX1_copy_98 rfl ?_
    refine r_invF dX1_copy_99 (sp_J24_hasNext (nd := nd ad) (n := tn (w 3)) (j := tn (w 3)) hq (nIn (by omega)) (s_5 S1) hw3) rfl mo_J24_hasNext (Or.inl hq) rfl (lkA q517) ⟨q519, q518, q548, q546, q544⟩ ⟨by decide +kernel, by decide +kernel⟩ (lkA q545) (lkA q547) rfl (show _ = some 0 from by decide +kernel) (lkA q95) mp_J24_hasNext (Nat.le_of_ble_eq_true rfl) (Nat.le_of_ble_eq_true rfl) (Nat.le_of_ble_eq_true rfl) (kr_e ?_) kx_e
    refine r_if_eq 131 dX1_copy_104 rfl (fun c104 => ?_) (fun c104 => absurd c104 (by rw [if_neg (Nat.lt_irrefl _)]; decide))
    refine V_loc (L' := [(1, .ref q0), (0, .ref (ad 0))]) ⟨rfl, rfl, trivial⟩ ?_
    exact V.less (cp_131 S0 i0 hw2 hw24 hw3 hw34 h6 ⟨z0, zI, zf, zS, zx⟩) (Nat.zero_le _)
  | succ k ih =>
    intro i H ad2 x0 hk hq hC
    have hi3 : i < tn (w 3) := by omega
    obtain ⟨z0, zI, zf, zS, zx⟩ := hC
    have S1 : St H ad w := St_ext S0 zx
    have hqF : cF ad2 (xC w i) qi = none := fam_none fun j hj hd e => by
      have h8 := zS j hj hd
      rw [e, hq] at h8
      exact it17 (Option.some.inj h8).symm
    have zS1 : St (hu H qi (bO 17 [.ref (nd ad i), va_rf (inx (nd ad) (tn (w 3)) (i + 1)), .int (nI i + 1), .int (w 3), .ref (ad 5)])) ad2 (xC w i) := St_hu zS hqF
    have S2 : St (hu H qi (bO 17 [.ref (nd ad i), va_rf (inx (nd ad) (tn (w 3)) (i + 1)), .int (nI i + 1), .int (w 3), .ref (ad 5)])) ad w := St_hu S1 (St_no S0 hqi)
    have m3 : (xC w i 3).toInt = (tn (xC w i 3) : Int) := by rw [xC_3, tn_e (nIn (show i < 1000 by omega))]; exact nIn (by omega)
    have m34 : tn (xC w i 3) < 40 := by rw [xC_3, tn_e (nIn (show i < 1000 by omega))]; omega
    have z5 : ∀ y, (hu (hu H qi (bO 17 [.ref (nd ad i), va_rf (inx (nd ad) (tn (w 3)) (i + 1)), .int (nI i + 1), .int (w 3), .ref (ad 5)])) y (cSa w i)) y = some (cSa w i) := fun y => hu_s
    first | refine r_aload_n dX1_copy_98 rfl ?_ | refine r_aload_nq dX1_copy_98 rfl ?_ | refine r_aload_nN dX1_copy_98 rfl ?_
    refine r_invF dX1_copy_99 (sp_J24_hasNext (nd := nd ad) (n := tn (w 3)) (j := i) hq (nIn (by omega)) (s_5 S1) hw3) rfl mo_J24_hasNext (Or.inl hq) rfl (lkA q517) ⟨q519, q518, q548, q546, q544⟩ ⟨by decide +kernel, by decide +kernel⟩ (lkA q545) (lkA q547) rfl (show _ = some 0 from by decide +kernel) (lkA q95) mp_J24_hasNext (Nat.le_of_ble_eq_true rfl) (Nat.le_of_ble_eq_true rfl) (Nat.le_of_ble_eq_true rfl) (kr_e ?_) kx_e
    refine r_if_eq 131 dX1_copy_104 rfl (fun c104 => absurd c104 (by rw [if_pos hi3]; decide)) (fun c104 => ?_)
    first | refine r_aload_n dX1_copy_107 rfl ?_ | refine r_aload_nq dX1_copy_107 rfl ?_ | refine r_aload_nN dX1_copy_107 rfl ?_
    refine r_invF dX1_copy_108 (sp_J24_next (nd := nd ad) (it := its ad) (n := tn (w 3)) (j := i) hq (nIn (by omega)) (s_5 S1) hw3 (fun m hm => s_n S1 m (by omega) hm) hi3) rfl mo_J24_next (Or.inl hq) rfl (lkA q551) ⟨q553, q552, q855, q853, q544⟩ ⟨by decide +kernel, by decide +kernel⟩ (lkA q852) (lkA q854) rfl (show _ = some 0 from by decide +kernel) (lkA q95) mp_J24_next (Nat.le_of_ble_eq_true rfl) (Nat.le_of_ble_eq_true rfl) (Nat.le_of_ble_eq_true rfl) (kr_e ?_) kx_e
    refine r_castS dX1_copy_113 (Or.inl (s_l S2 i (by omega) hi3)) rfl (lkA q973) ?_
    first | refine r_astore_n dX1_copy_116 (Nat.le_of_ble_eq_true rfl) ?_ | refine r_astore_nq dX1_copy_116 (Nat.le_of_ble_eq_true rfl) ?_ | refine r_astore_nN dX1_copy_116 (Nat.le_of_ble_eq_true rfl) ?_
    first | refine r_aload_n dX1_copy_117 rfl ?_ | refine r_aload_nq dX1_copy_117 rfl ?_ | refine r_aload_nN dX1_copy_117 rfl ?_
    refine r_getfield 1 2 dX1_copy_118 rfl (Nat.le_of_ble_eq_true rfl) (lkA q300) (Or.inl rfl) (Or.inl (by rw [← z0]; exact s_0 zS1)) (by rfl) ?_
    first | refine r_aload_n dX1_copy_121 rfl ?_ | refine r_aload_nq dX1_copy_121 rfl ?_ | refine r_aload_nN dX1_copy_121 rfl ?_
    refine r_invV dX1_copy_122 (sp_X5_copy (s_l S2 i (by omega) hi3) (h6 i hi3)) rfl mo_X5_copy (Or.inl (s_l S2 i (by omega) hi3)) rfl (lkA q974) (lkA q975) (lkA q976) rfl (lkA q96) mp_X5_copy (Nat.le_of_ble_eq_true rfl) (by omega) (Nat.le_of_ble_eq_true rfl) (kr_r (fun v9 h9 p9 => ?_)) kx_r
    obtain ⟨q, rfl, hq5, rfl⟩ := p9
    have zS2 : St (hu (hu H qi (bO 17 [.ref (nd ad i), va_rf (inx (nd ad) (tn (w 3)) (i + 1)), .int (nI i + 1), .int (w 3), .ref (ad 5)])) q (cSa w i)) ad2 (xC w i) := St_new zS1 hq5
    refine r_invV dX1_copy_125 (sp_J4_addLastQ zS2 m3 m34) rfl mo_J4_addLast (Or.inl (s_5 zS2)) rfl (lkA q1012) (lkA q1013) (lkA q1014) rfl (lkA q70) mp_J4_addLast (Nat.le_of_ble_eq_true rfl) (by omega) (Nat.le_of_ble_eq_true rfl) (kr_r (fun v9 h9 p9 => ?_)) kx_r
    obtain ⟨rfl, qn, hqn, hA⟩ := p9
    refine r_goto 98 dX1_copy_128 rfl ?_
    have hqn2 := ov_none_hu hqn
    have hq6 := ov_none_hu hq5
    have hHn := (ov_none_hu hqn2.2).2
    obtain ⟨ad3, ea, e80, e81, i3, S3⟩ := add_sale (w' := xC w (i + 1)) (qa := q) (qn := qn) (k := i) zI zS2 (by rw [xC_2]; exact hw24) (by rw [xC_3]; exact tn_e (nIn (by omega))) (by omega) (by rw [xC_3]; exact tn_e (nIn (by omega))) (by rw [xC_3, xC_3, nI_succ]) (by rw [xC_2, xC_2]) (St_no zS hq6.2) (St_no zS hHn) (Ne.symm hqn2.1) (fun j j3 _ _ hr => xC_o j3 hr) (by rw [hu_s, cSa, cSa, show xC w (i + 1) (133 + 7 * i) = w (133 + 7 * i) from xC_l (m := 0) hw24 (by decide), xC_l hw24 (by decide), xC_l hw24 (by decide), xC_l hw24 (by decide), xC_l hw24 (by decide), xC_l hw24 (by decide), xC_l hw24 (by decide)]) hA
    have fr : ∀ v y, (∀ j, j < 160 → cdom (xC w i) j = true → ad2 j ≠ v) → (hu (hu H qi (bO 17 [.ref (nd ad i), va_rf (inx (nd ad) (tn (w 3)) (i + 1)), .int (nI i + 1), .int (w 3), .ref (ad 5)])) q (cSa w i)) v = some y → h9 v = some y := fun v y hj hv => addQ_fr hA hqn (Ne.symm (hj 5 (by decide) (cdm_i (by omega)))) (fun m e => Ne.symm (hj (81 + 2 * m) (by rw [xC_3, tn_e (nIn (show i < 1000 by omega))] at e; omega) (cdm_i (by omega)))) hv
    have zx3 : Ext h h9 := fun v y hv => fr v y (fun j hj hd e => by
      have := zf j hj hd
      rw [e, hv] at this
      cases this) (by
      rw [hu_n (ne_o (zx.none hq6.2) hv), hu_n (fun e => by rw [e, hqi] at hv; cases hv)]
      exact zx v y hv)
    refine V_loc (L' := [(2, .ref qi), (1, .ref q0), (0, .ref (ad 0))]) ⟨rfl, rfl, rfl, trivial⟩ ?_
    refine V.less (c' := 12 * k) ?_ (by omega)
    refine ih (i + 1) h9 ad3 _ (by omega) (fr qi _ (fun j hj hd e => fam_no hqF hj hd e) (by rw [hu_n (Ne.symm hq6.1), hu_s, nI_succ])) ⟨(ea 0 (by omega) (by omega)).trans z0, i3, fun j hj hd => ?_, S3, zx3⟩
    by_cases j1 : j = 80 + 2 * i
    · rw [j1, e80]; exact zx.none hq6.2
    · by_cases j2 : j = 81 + 2 * i
      · rw [j2, e81]; exact zx.none hHn
      · rw [ea j j1 j2]
        refine zf j hj (cdm_i ?_)
        have h8 := cdm_e hd
        rw [xC_2, xC_3, tn_e (nIn (show i + 1 < 1000 by omega))] at h8
        rw [xC_2, xC_3, tn_e (nIn (show i < 1000 by omega))]
        omega

set_option maxHeartbeats 4000000 in
set_option maxRecDepth 100000 in
theorem cp_90 {G : GG} {h : HP} {ad : Nat → Nat} {w : Nat → Int32} (S0 : St h ad w) (i0 : cI ad w) (hw2 : (w 2).toInt = (tn (w 2) : Int)) (hw24 : tn (w 2) ≤ 4) (hw3 : (w 3).toInt = (tn (w 3) : Int)) (hw34 : tn (w 3) ≤ 40) (h6 : ∀ k, k < tn (w 3) → w (133 + 7 * k + 6) = 0 ∨ w (133 + 7 * k + 6) = 1) {H : HP} {ad2 : Nat → Nat} {q0 : Nat} (hC : CP h q0 ad2 (xC w 0) H) : V G 9 M_X1_copy 90 [(1, .ref q0), (0, .ref (ad 0))] [] H 500 (rQ (fun v h' => ∃ ad2 : Nat → Nat, v = some (.ref (ad2 0)) ∧ cI ad2 w ∧ (∀ j, j < 160 → cdom w j = true → h (ad2 j) = none) ∧ St h' ad2 w ∧ Ext h h')) := by
  obtain ⟨z0, zI, zf, zS, zx⟩ := hC
  have S1 : St H ad w := St_ext S0 zx
  first | refine r_aload_n dX1_copy_90 rfl ?_ | refine r_aload_nq dX1_copy_90 rfl ?_ | refine r_aload_nN dX1_copy_90 rfl ?_
  refine r_getfield 1 2 dX1_copy_91 rfl (Nat.le_of_ble_eq_true rfl) (lkA q300) (Or.inl rfl) (Or.inl (s_0 S1)) (by rfl) ?_
  refine r_invU (owner := "java/util/AbstractSequentialList") dX1_copy_94 (sp_J3_iterator (s_5 S1) hw3 (fun m hm => s_n S1 m (by omega) hm) (by omega)) rfl mo_J3_iterator (Or.inl (s_5 S1)) rfl (lkA q902) (lkA q903) (Or.inl ⟨(lkA q906), _, _, _, (lkA q907)⟩) ⟨by decide +kernel, by decide +kernel⟩ (lkA q905) (lkA q906) rfl (show _ = some 0 from by decide +kernel) (lkA q69) mp_J3_iterator (Nat.le_of_ble_eq_true rfl) (by omega) (Nat.le_of_ble_eq_true rfl) (kr_r (fun v9 h9 p9 => ?_)) kx_r
  obtain ⟨qi, rfl, hqi, rfl⟩ := p9
  first | refine r_astore_n dX1_copy_97 (Nat.le_of_ble_eq_true rfl) ?_ | refine r_astore_nq dX1_copy_97 (Nat.le_of_ble_eq_true rfl) ?_ | refine r_astore_nN dX1_copy_97 (Nat.le_of_ble_eq_true rfl) ?_
  refine V_loc (L' := [(2, .ref qi), (1, .ref q0), (0, .ref (ad 0))]) ⟨rfl, rfl, rfl, trivial⟩ ?_
  refine V.less (c' := 12 * tn (w 3)) ?_ (by omega)
  exact cp_98 S0 i0 hw2 hw24 hw3 hw34 h6 (zx.none hqi) (tn (w 3)) 0 _ ad2 .null (by omega) hu_s ⟨z0, zI, zf, St_new zS hqi, Ext_hu zx (zx.none hqi)⟩

set_option maxHeartbeats 4000000 in
set_option maxRecDepth 100000 in
theorem cp_56 {G : GG} {h : HP} {ad : Nat → Nat} {w : Nat → Int32} (S0 : St h ad w) (i0 : cI ad w) (hw2 : (w 2).toInt = (tn (w 2) : Int)) (hw24 : tn (w 2) ≤ 4) (hw3 : (w 3).toInt = (tn (w 3) : Int)) (hw34 : tn (w 3) ≤ 40) (h6 : ∀ k, k < tn (w 3) → w (133 + 7 * k + 6) = 0 ∨ w (133 + 7 * k + 6) = 1) {q0 qi : Nat} (hqi : h qi = none) : ∀ (k i : Nat) (H : HP) (ad2 : Nat → Nat) (lr : Int32), i + k = tn (w 2) → H qi = some (bIt (nI i) lr (w 2) (ad 3)) → CP h q0 ad2 (xB w i) H → V G 9 M_X1_copy 56 [(2, .ref qi), (1, .ref q0), (0, .ref (ad 0))] [] H (506 + 12 * k) (rQ (fun v h' => ∃ ad2 : Nat → Nat, v = some (.ref (ad2 0)) ∧ cI ad2 w ∧ (∀ j, j < 160 → cdom w j = true → h (ad2 j) = none) ∧ St h' ad2 w ∧ Ext h h')) := by
  intro k
  induction k with
  | zero =>
    intro i H ad2 lr hk hq hC
    obtain rfl : i = tn (w 2) := by omega
    obtain ⟨z0, zI, zf, zS, zx⟩ := hC
    have S1 : St H ad w := St_ext S0 zx
    first | refine r_aload_n dX1_copy_56 rfl ?_ | refine r_aload_nq dX1_copy_56 rfl ?_ | refine r_aload_nN dX1_copy_56 rfl ?_
    refine r_invF dX1_copy_57 (sp_J16_hasNext hq (s_3 S1)) rfl mo_J16_hasNext (Or.inl hq) rfl (lkA q517) ⟨q519, q518, q539, q537, q535⟩ ⟨by decide +kernel, by decide +kernel⟩ (lkA q536) (lkA q538) rfl (show _ = some 0 from by decide +kernel) (lkA q85) mp_J16_hasNext (Nat.le_of_ble_eq_true rfl) (Nat.le_of_ble_eq_true rfl) (Nat.le_of_ble_eq_true rfl) (kr_e ?_) kx_e
    refine r_if_eq 90 dX1_copy_62 rfl (fun c62 => ?_) (fun c62 => absurd c62 (by rw [if_pos ((nI_c hw2 (by omega)).mpr rfl)]; decide))
    refine V_loc (L' := [(1, .ref q0), (0, .ref (ad 0))]) ⟨rfl, rfl, trivial⟩ ?_
    exact V.less (cp_90 S0 i0 hw2 hw24 hw3 hw34 h6 (by rw [← xB_C hw2]; exact ⟨z0, zI, zf, zS, zx⟩)) (by omega)
  | succ k ih =>
    intro i H ad2 lr hk hq hC
    have hi3 : i < tn (w 2) := by omega
    have hix := nIn (show i < 1000 by omega)
    obtain ⟨z0, zI, zf, zS, zx⟩ := hC
    have S1 : St H ad w := St_ext S0 zx
    have hqF : cF ad2 (xB w i) qi = none := fam_none fun j hj hd e => by
      have h8 := zS j hj hd
      rw [e, hq] at h8
      exact it16 (Option.some.inj h8).symm
    have zS1 : St (hu H qi (bO 16 [.int (nI i + 1), .int (nI i), .int (w 2), .ref (ad 3)])) ad2 (xB w i) := St_hu zS hqF
    have S2 : St (hu H qi (bO 16 [.int (nI i + 1), .int (nI i), .int (w 2), .ref (ad 3)])) ad w := St_hu S1 (St_no S0 hqi)
    have mt : (xB w i 2).toInt = (i : Int) := by rw [xB_2]; exact hix
    first | refine r_aload_n dX1_copy_56 rfl ?_ | refine r_aload_nq dX1_copy_56 rfl ?_ | refine r_aload_nN dX1_copy_56 rfl ?_
    refine r_invF dX1_copy_57 (sp_J16_hasNext hq (s_3 S1)) rfl mo_J16_hasNext (Or.inl hq) rfl (lkA q517) ⟨q519, q518, q539, q537, q535⟩ ⟨by decide +kernel, by decide +kernel⟩ (lkA q536) (lkA q538) rfl (show _ = some 0 from by decide +kernel) (lkA q85) mp_J16_hasNext (Nat.le_of_ble_eq_true rfl) (Nat.le_of_ble_eq_true rfl) (Nat.le_of_ble_eq_true rfl) (kr_e ?_) kx_e
    refine r_if_eq 90 dX1_copy_62 rfl (fun c62 => absurd c62 (by rw [if_neg (fun e => by have := (nI_c hw2 (by omega)).mp e; omega)]; decide)) (fun c62 => ?_)
    first | refine r_aload_n dX1_copy_65 rfl ?_ | refine r_aload_nq dX1_copy_65 rfl ?_ | refine r_aload_nN dX1_copy_65 rfl ?_
    refine r_invF dX1_copy_66 (sp_J16_next hq (s_3 S1) (s_4 S1) hix (by rw [hw2]; omega) (by omega) (by decide) (fSs_at hi3)) rfl mo_J16_next (Or.inl hq) rfl (lkA q551) ⟨q553, q552, q842, q840, q535⟩ ⟨by decide +kernel, by decide +kernel⟩ (lkA q839) (lkA q841) rfl (show _ = some 0 from by decide +kernel) (lkA q85) mp_J16_next (Nat.le_of_ble_eq_true rfl) (Nat.le_of_ble_eq_true rfl) (Nat.le_of_ble_eq_true rfl) (kr_e ?_) kx_e
    refine r_castS dX1_copy_71 (Or.inl (s_s S2 i (by omega) hi3)) rfl (lkA q862) ?_
    first | refine r_astore_n dX1_copy_74 (Nat.le_of_ble_eq_true rfl) ?_ | refine r_astore_nq dX1_copy_74 (Nat.le_of_ble_eq_true rfl) ?_ | refine r_astore_nN dX1_copy_74 (Nat.le_of_ble_eq_true rfl) ?_
    first | refine r_aload_n dX1_copy_75 rfl ?_ | refine r_aload_nq dX1_copy_75 rfl ?_ | refine r_aload_nN dX1_copy_75 rfl ?_
    refine r_getfield 1 1 dX1_copy_76 rfl (Nat.le_of_ble_eq_true rfl) (lkA q298) (Or.inl rfl) (Or.inl (by rw [← z0]; exact s_0 zS1)) (by rfl) ?_
    first | refine r_aload_n dX1_copy_79 rfl ?_ | refine r_aload_nq dX1_copy_79 rfl ?_ | refine r_aload_nN dX1_copy_79 rfl ?_
    refine r_invV dX1_copy_80 (sp_X4_copy (s_s S2 i (by omega) hi3) (s_r S2 i (by omega) hi3) (fun j hj => if_neg (by omega))) rfl mo_X4_copy (Or.inl (s_s S2 i (by omega) hi3)) rfl (lkA q863) (lkA q864) (lkA q865) rfl (lkA q91) mp_X4_copy (Nat.le_of_ble_eq_true rfl) (by omega) (Nat.le_of_ble_eq_true rfl) (kr_r (fun v9 h9 p9 => ?_)) kx_r
    obtain ⟨q, kk, rfl, hq5, hk5, ekq, rfl⟩ := p9
    have hqk : hu (hu H qi (bO 16 [.int (nI i + 1), .int (nI i), .int (w 2), .ref (ad 3)])) kk (bI 0 3 (fBr w i)) q = none := (hu_n (Ne.symm ekq)).trans hq5
    have zS2 : St (hu (hu (hu H qi (bO 16 [.int (nI i + 1), .int (nI i), .int (w 2), .ref (ad 3)])) kk (bI 0 3 (fBr w i))) q (bO 4 [.int (w (17 + 9 * i)), .int (w (17 + 9 * i + 1)), .int (w (17 + 9 * i + 2)), .ref kk, .int (w (17 + 9 * i + 6)), .int (w (17 + 9 * i + 7)), .int (w (17 + 9 * i + 8))])) ad2 (xB w i) := St_new (St_new zS1 hk5) hqk
    have eq3 : q ≠ ad2 3 := Ne.symm (ne_o hqk (St_new zS1 hk5 3 (by decide) (cdm_i (by omega))))
    refine r_invV dX1_copy_83 (sp_J2_add (s_3 zS2) (s_4 zS2) mt (by omega) (by decide) hu_s rfl (Or.inr (lkT q2263 rfl)) eq3) rfl mo_J2_add (Or.inl (s_3 zS2)) rfl (lkA q226) (lkA q227) (lkA q228) rfl (lkA q68) mp_J2_add (Nat.le_of_ble_eq_true rfl) (Nat.zero_le _) (Nat.le_of_ble_eq_true rfl) (kr_e ?_) kx_e
    refine r_pop dX1_copy_86 rfl ?_
    refine r_goto 56 dX1_copy_87 rfl ?_
    have hq6 := ov_none_hu hq5
    have hk6 := ov_none_hu hk5
    obtain ⟨ad3, ea, e70, e74, i3, S3⟩ := add_seller (w' := xB w (i + 1)) (qa := q) (qb := kk) (s := i) zI zS2 (by rw [xB_2]; exact tn_e (nIn (by omega))) (by omega) (by rw [xB_2]; exact tn_e (nIn (by omega))) (by rw [xB_2, xB_2, nI_succ]) (by rw [xB_3, xB_3]) (St_no zS hq6.2) (St_no zS hk6.2) (Ne.symm ekq) (fun j j2 hr => xB_o j2 hr) (by rw [hu_s, show xB w (i + 1) (17 + 9 * i) = w (17 + 9 * i) from xB_s (m := 0) (by omega) (by decide), xB_s (by omega) (by decide), xB_s (by omega) (by decide), xB_s (by omega) (by decide), xB_s (by omega) (by decide), xB_s (by omega) (by decide)]) (by rw [hu_n ekq, hu_s]; exact congrArg (fun z => some (bI 0 3 z)) (fBr_B (by omega)))
    rw [xB_2, tn_e (nIn (show i < 1000 by omega))] at S3
    have fr : ∀ v y, (∀ j, j < 160 → cdom (xB w i) j = true → ad2 j ≠ v) → (hu (hu (hu H qi (bO 16 [.int (nI i + 1), .int (nI i), .int (w 2), .ref (ad 3)])) kk (bI 0 3 (fBr w i))) q (bO 4 [.int (w (17 + 9 * i)), .int (w (17 + 9 * i + 1)), .int (w (17 + 9 * i + 2)), .ref kk, .int (w (17 + 9 * i + 6)), .int (w (17 + 9 * i + 7)), .int (w (17 + 9 * i + 8))])) v = some y → ∀ X Y, (hu (hu (hu (hu (hu H qi (bO 16 [.int (nI i + 1), .int (nI i), .int (w 2), .ref (ad 3)])) kk (bI 0 3 (fBr w i))) q (bO 4 [.int (w (17 + 9 * i)), .int (w (17 + 9 * i + 1)), .int (w (17 + 9 * i + 2)), .ref kk, .int (w (17 + 9 * i + 6)), .int (w (17 + 9 * i + 7)), .int (w (17 + 9 * i + 8))])) (ad2 4) X) (ad2 3) Y) v = some y := fun v y hj hv X Y => by
      rw [hu_n (Ne.symm (hj 3 (by decide) (cdm_i (by omega)))), hu_n (Ne.symm (hj 4 (by decide) (cdm_i (by omega)))), hv]
    refine V_loc (L' := [(2, .ref qi), (1, .ref q0), (0, .ref (ad 0))]) ⟨rfl, rfl, rfl, trivial⟩ ?_
    rw [xB_2, tn_e (nIn (show i < 1000 by omega))]
    refine V.less (c' := 506 + 12 * k) ?_ (by omega)
    refine ih (i + 1) _ ad3 _ (by omega) (fr qi _ (fun j hj hd e => fam_no hqF hj hd e) (by rw [hu_n (Ne.symm hq6.1), hu_n (Ne.symm hk6.1), hu_s, nI_succ]) _ _) ⟨(ea 0 (by omega) (by omega)).trans z0, i3, fun j hj hd => ?_, S3, fun v y hv => fr v y (fun j hj hd e => by
      have := zf j hj hd
      rw [e, hv] at this
      cases this) (by
      rw [hu_n (ne_o (zx.none hq6.2) hv), hu_n (ne_o (zx.none hk6.2) hv), hu_n (fun e => by rw [e, hqi] at hv; cases hv)]
      exact zx v y hv) _ _⟩
    by_cases j1 : j = 70 + i
    · rw [j1, e70]; exact zx.none hq6.2
    · by_cases j2 : j = 74 + i
      · rw [j2, e74]; exact zx.none hk6.2
      · rw [ea j j1 j2]
        refine zf j hj (cdm_i ?_)
        have h8 := cdm_e hd
        rw [xB_2, xB_3, tn_e (nIn (show i + 1 < 1000 by omega))] at h8
        rw [xB_2, xB_3, tn_e (nIn (show i < 1000 by omega))]
        omega

set_option maxHeartbeats 4000000 in
set_option maxRecDepth 100000 in
theorem cp_48 {G : GG} {h : HP} {ad : Nat → Nat} {w : Nat → Int32} (S0 : St h ad w) (i0 : cI ad w) (hw2 : (w 2).toInt = (tn (w 2) : Int)) (hw24 : tn (w 2) ≤ 4) (hw3 : (w 3).toInt = (tn (w 3) : Int)) (hw34 : tn (w 3) ≤ 40) (h6 : ∀ k, k < tn (w 3) → w (133 + 7 * k + 6) = 0 ∨ w (133 + 7 * k + 6) = 1) {H : HP} {ad2 : Nat → Nat} {q0 : Nat} (hC : CP h q0 ad2 (xB w 0) H) : V G 9 M_X1_copy 48 [(1, .ref q0), (0, .ref (ad 0))] [] H 600 (rQ (fun v h' => ∃ ad2 : Nat → Nat, v = some (.ref (ad2 0)) ∧ cI ad2 w ∧ (∀ j, j < 160 → cdom w j = true → h (ad2 j) = none) ∧ St h' ad2 w ∧ Ext h h')) := by
  obtain ⟨z0, zI, zf, zS, zx⟩ := hC
  have S1 : St H ad w := St_ext S0 zx
  first | refine r_aload_n dX1_copy_48 rfl ?_ | refine r_aload_nq dX1_copy_48 rfl ?_ | refine r_aload_nN dX1_copy_48 rfl ?_
  refine r_getfield 1 1 dX1_copy_49 rfl (Nat.le_of_ble_eq_true rfl) (lkA q298) (Or.inl rfl) (Or.inl (s_0 S1)) (by rfl) ?_
  refine r_invV dX1_copy_52 (sp_J2_iterator (s_3 S1)) rfl mo_J2_iterator (Or.inl (s_3 S1)) rfl (lkA q491) (lkA q492) (lkA q493) rfl (lkA q68) mp_J2_iterator (Nat.le_of_ble_eq_true rfl) (by decide) (Nat.le_of_ble_eq_true rfl) (kr_r (fun v9 h9 p9 => ?_)) kx_r
  obtain ⟨qi, rfl, hqi, rfl⟩ := p9
  first | refine r_astore_n dX1_copy_55 (Nat.le_of_ble_eq_true rfl) ?_ | refine r_astore_nq dX1_copy_55 (Nat.le_of_ble_eq_true rfl) ?_ | refine r_astore_nN dX1_copy_55 (Nat.le_of_ble_eq_true rfl) ?_
  refine V_loc (L' := [(2, .ref qi), (1, .ref q0), (0, .ref (ad 0))]) ⟨rfl, rfl, rfl, trivial⟩ ?_
  refine V.less (c' := 506 + 12 * tn (w 2)) ?_ (by omega)
  exact cp_56 S0 i0 hw2 hw24 hw3 hw34 h6 (zx.none hqi) (tn (w 2)) 0 _ ad2 (-1) (by omega) hu_s ⟨z0, zI, zf, St_new zS hqi, Ext_hu zx (zx.none hqi)⟩

set_option maxHeartbeats 4000000 in
set_option maxRecDepth 100000 in
theorem cp_10 {G : GG} {h : HP} (hK : KS G) {ad : Nat → Nat} {w : Nat → Int32} (S0 : St h ad w) (i0 : cI ad w) (hw2 : (w 2).toInt = (tn (w 2) : Int)) (hw24 : tn (w 2) ≤ 4) (hw3 : (w 3).toInt = (tn (w 3) : Int)) (hw34 : tn (w 3) ≤ 40) (h6 : ∀ k, k < tn (w 3) → w (133 + 7 * k + 6) = 0 ∨ w (133 + 7 * k + 6) = 1) {q0 : Nat} : ∀ (k i : Nat) (H : HP) (ad2 : Nat → Nat), i + k = 20 → CP h q0 ad2 (xA w i) H → V G 9 M_X1_copy 10 [(2, .int (nI i)), (1, .ref q0), (0, .ref (ad 0))] [] H (620 + 12 * k) (rQ (fun v h' => ∃ ad2 : Nat → Nat, v = some (.ref (ad2 0)) ∧ cI ad2 w ∧ (∀ j, j < 160 → cdom w j = true → h (ad2 j) = none) ∧ St h' ad2 w ∧ Ext h h')) := by
  intro k
  induction k with
  | zero =>
    intro i H ad2 hk hC
    obtain rfl : i = 20 := by omega
    refine r_iload_n dX1_copy_10 rfl ?_
    refine r_bipush (v := 20) dX1_copy_11 rfl ?_
    refine r_icmp_ge 48 dX1_copy_13 rfl (fun c13 => ?_) (fun c13 => absurd c13 (by decide))
    refine V_loc (L' := [(1, .ref q0), (0, .ref (ad 0))]) ⟨rfl, rfl, trivial⟩ ?_
    exact V.less (cp_48 S0 i0 hw2 hw24 hw3 hw34 h6 (by rw [← xA_B]; exact hC)) (by omega)
  | succ k ih =>
    intro i H ad2 hk hC
    have hi3 : i < 20 := by omega
    have hix := nIn (show i < 1000 by omega)
    have h20 : (20 : Int32).toInt = 20 := rfl
    obtain ⟨z0, zI, zf, zS, zx⟩ := hC
    have S1 : St H ad w := St_ext S0 zx
    refine r_iload_n dX1_copy_10 rfl ?_
    refine r_bipush (v := 20) dX1_copy_11 rfl ?_
    refine r_icmp_ge 48 dX1_copy_13 rfl (fun c13 => absurd c13 (by intro e; rw [Int32.le_iff_toInt_le, hix] at e; omega)) (fun c13 => ?_)
    first | refine r_aload_n dX1_copy_16 rfl ?_ | refine r_aload_nq dX1_copy_16 rfl ?_ | refine r_aload_nN dX1_copy_16 rfl ?_
    refine r_getfield 1 0 dX1_copy_17 rfl (Nat.le_of_ble_eq_true rfl) (lkA q296) (Or.inl rfl) (Or.inl (by rw [← z0]; exact s_0 zS)) (by rfl) ?_
    refine r_iload_n dX1_copy_20 rfl ?_
    first | refine r_aload_n dX1_copy_21 rfl ?_ | refine r_aload_nq dX1_copy_21 rfl ?_ | refine r_aload_nN dX1_copy_21 rfl ?_
    refine r_getfield 1 0 dX1_copy_22 rfl (Nat.le_of_ble_eq_true rfl) (lkA q296) (Or.inl rfl) (Or.inl (s_0 S1)) (by rfl) ?_
    refine r_iload_n dX1_copy_25 rfl ?_
    refine r_invV dX1_copy_26 (sp_J2_get (s_1 S1) (s_2 S1) hix (by omega) hi3 (fHs_at hi3)) rfl mo_J2_get (Or.inl (s_1 S1)) rfl (lkA q440) (lkA q441) (lkA q442) rfl (lkA q68) mp_J2_get (Nat.le_of_ble_eq_true rfl) (Nat.zero_le _) (Nat.le_of_ble_eq_true rfl) (kr_e ?_) kx_e
    refine r_castS dX1_copy_29 (Or.inl (s_h S1 i hi3)) rfl (lkA q176) ?_
    refine r_invV dX1_copy_32 (sp_X2_copy hK (s_h S1 i hi3) (s_b S1 i hi3) (s_w S1 i hi3)) rfl mo_X2_copy (Or.inl (s_h S1 i hi3)) rfl (lkA q454) (lkA q455) (lkA q456) rfl (lkA q71) mp_X2_copy (Nat.le_of_ble_eq_true rfl) (by omega) (Nat.le_of_ble_eq_true rfl) (kr_r (fun v9 h9 p9 => ?_)) kx_r
    obtain ⟨q, kk, m, rfl, hq, hkk, hm, e1, e2, e3, rfl⟩ := p9
    have hkm : hu H m (bWd (w (53 + 4 * i + 3))) kk = none := (hu_n (Ne.symm e1)).trans hkk
    have hqm : hu (hu H m (bWd (w (53 + 4 * i + 3)))) kk (bBs m (w (53 + 4 * i + 3))) q = none := (hu_n (Ne.symm e3)).trans ((hu_n (Ne.symm e2)).trans hq)
    have zS2 : St (hu (hu (hu H m (bWd (w (53 + 4 * i + 3)))) kk (bBs m (w (53 + 4 * i + 3)))) q (bO 2 [.int (nI i), .int (w (53 + 4 * i)), .int (gDg w i), .int (w (53 + 4 * i + 2)), .ref kk])) ad2 (xA w i) := St_new (St_new (St_new zS hm) hkm) hqm
    refine r_invV dX1_copy_35 (sp_J2_set (s_1 zS2) (s_2 zS2) hix (by omega) hi3 (fHs_at hi3) hu_s rfl (Or.inr (lkT q2257 rfl))) rfl mo_J2_set (Or.inl (s_1 zS2)) rfl (lkA q487) (lkA q488) (lkA q489) rfl (lkA q68) mp_J2_set (Nat.le_of_ble_eq_true rfl) (Nat.zero_le _) (Nat.le_of_ble_eq_true rfl) (kr_e ?_) kx_e
    refine r_castS dX1_copy_38 (Or.inl ((hu_n (fun e => absurd (zI (10 + i) 2 (by omega) (by decide) (cdm_i (by omega)) (cdm_i (by omega)) e) (by omega))).trans (s_h zS2 i hi3))) rfl (lkA q176) ?_
    first | refine r_astore_n dX1_copy_41 (Nat.le_of_ble_eq_true rfl) ?_ | refine r_astore_nq dX1_copy_41 (Nat.le_of_ble_eq_true rfl) ?_ | refine r_astore_nN dX1_copy_41 (Nat.le_of_ble_eq_true rfl) ?_
    refine r_inc 1 dX1_copy_42 rfl rfl (Nat.le_of_ble_eq_true rfl) ?_
    refine r_goto 10 dX1_copy_45 rfl ?_
    have eg : gDg (xA w (i + 1)) i = gDg w i := by unfold gDg gMd; rw [xA_h (by decide)]
    obtain ⟨ad3, ea, a1, a3, a5, i3, S3⟩ := re_house (W' := xA w (i + 1)) hi3 zI zS hq hkk hm e1 e2 e3 (by rw [xA_2 (by omega), xA_2 (by omega)]) (by rw [xA_2 (by omega), xA_2 (by omega)]) (fun j hj => xA_o hj)
    rw [eg, xA_h (by decide), xA_h (by decide), show xA w (i + 1) (53 + 4 * i) = w (53 + 4 * i) from xA_h (m := 0) (by decide)] at S3
    refine V_loc (L' := [(2, .int (nI i + 1)), (1, .ref q0), (0, .ref (ad 0))]) ⟨rfl, rfl, rfl, trivial⟩ ?_
    rw [← nI_succ]
    refine V.less (c' := 620 + 12 * k) ?_ (by omega)
    refine ih (i + 1) _ ad3 (by omega) ⟨(ea 0 (by omega) (by omega) (by omega)).trans z0, i3, fun j hj hd => ?_, S3, fun v y hv => ?_⟩
    · by_cases j1 : j = 10 + i
      · rw [j1, a1]; exact zx.none hq
      · by_cases j3 : j = 30 + i
        · rw [j3, a3]; exact zx.none hkk
        · by_cases j5 : j = 50 + i
          · rw [j5, a5]; exact zx.none hm
          · rw [ea j j1 j3 j5]
            exact zf j hj (by rw [cdom, xA_2 (by omega), xA_2 (by omega)] at hd ⊢; exact hd)
    · rw [hu_n (ne_o (zf 2 (by decide) (cdm_i (by omega))) hv), hu_n (ne_o (zx.none hq) hv), hu_n (ne_o (zx.none hkk) hv), hu_n (ne_o (zx.none hm) hv)]
      exact zx v y hv

set_option maxHeartbeats 4000000 in
set_option maxRecDepth 100000 in
theorem sp_X1_copy {G : GG} {h : HP} (hK : KS G) {ad : Nat → Nat} {w : Nat → Int32} (S0 : St h ad w) (i0 : cI ad w) (hw2 : (w 2).toInt = (tn (w 2) : Int)) (hw24 : tn (w 2) ≤ 4) (hw3 : (w 3).toInt = (tn (w 3) : Int)) (hw34 : tn (w 3) ≤ 40) (h6 : ∀ k, k < tn (w 3) → w (133 + 7 * k + 6) = 0 ∨ w (133 + 7 * k + 6) = 1)  : Ct G 9 3300 M_X1_copy [.ref (ad 0)] h (rQ (fun v h' => ∃ ad2 : Nat → Nat, v = some (.ref (ad2 0)) ∧ cI ad2 w ∧ (∀ j, j < 160 → cdom w j = true → h (ad2 j) = none) ∧ St h' ad2 w ∧ Ext h h')) := by
  refine ct_intro my_X1_copy (Nat.le_of_ble_eq_true rfl) ?_
  refine r_new 1 [.null, .null, .null, .null, .int 0, .int 0, .int 0, .int 0, .int 0, .int 0, .int 0, .int 0, .int 0, .int 0] dX1_copy_0 rfl (lkA q438) (lkA q115) (lkA q65) (fun j hj => match j, hj with | 0, _ => rfl | 1, _ => rfl | 2, _ => rfl | 3, _ => rfl | 4, _ => rfl | 5, _ => rfl | 6, _ => rfl | 7, _ => rfl | 8, _ => rfl | 9, _ => rfl | 10, _ => rfl | 11, _ => rfl | 12, _ => rfl | 13, _ => rfl | k + 14, hk => absurd hk (Nat.not_lt.mpr (Nat.le_add_left 14 k))) (Nat.le_of_ble_eq_true rfl) (fun q0 hq0 => ?_)
  refine r_dup dX1_copy_3 rfl ?_
  refine r_invI dX1_copy_4 (sp_X1_init hu_s) rfl mo_X1_init (lkA q439) (lkA q117) rfl rfl rfl (lkA q65) mp_X1_init (Nat.le_of_ble_eq_true rfl) (Nat.le_of_ble_eq_true rfl) (Nat.le_of_ble_eq_true rfl) (kr_r (fun v9 h9 p9 => ?_)) kx_r
  obtain ⟨rfl, ad2, z0, zI, zf, zS, zx⟩ := p9
  first | refine r_astore_n dX1_copy_7 (Nat.le_of_ble_eq_true rfl) ?_ | refine r_astore_nq dX1_copy_7 (Nat.le_of_ble_eq_true rfl) ?_ | refine r_astore_nN dX1_copy_7 (Nat.le_of_ble_eq_true rfl) ?_
  refine r_iconst (v := 0) dX1_copy_8 rfl ?_
  refine r_istore_n dX1_copy_9 (Nat.le_of_ble_eq_true rfl) ?_
  have hC : CP h q0 ad2 (xA w 0) h9 := by
    rw [xA_0]
    refine ⟨z0, zI, fun j hj hd => ?_, zS, fun v y hv => zx v y (ne_o hq0 hv) (hu_o hq0 hv)⟩
    by_cases j0 : j = 0
    · rw [j0, z0]; exact hq0
    · exact (ov_none_hu (zf j (by omega) hj hd)).2
  refine V_loc (L' := [(2, .int (nI 0)), (1, .ref q0), (0, .ref (ad 0))]) ⟨rfl, rfl, rfl, trivial⟩ ?_
  exact V.less (cp_10 hK S0 i0 hw2 hw24 hw3 hw34 h6 20 0 h9 ad2 (by omega) hC) (by decide)

