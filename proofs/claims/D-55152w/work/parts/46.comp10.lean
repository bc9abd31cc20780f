set_option maxRecDepth 100000
/-- a heap that shows a changed state in the same cells -/
theorem cH_up {ad : Nat → Nat} {w w' : Nat → Int32} {h H : HP} (e2 : w' 2 = w 2) (e3 : w' 3 = w 3) (hS : St H ad w') (ho : ∀ q, cF ad w q = none → H q = h q) : H = cH ad w' h := by
  funext q
  cases e : cF ad w' q with
  | some b => rw [cH, ov_s e, St_in hS e]
  | none => rw [cH, ov_n e, ho q (cF_no e e2.symm e3.symm)]
theorem bBs_n {wa : Nat} {v : Int32} (h : ¬ v = 0) : bBs wa v = bO 12 [.ref wa, .int 1, .int 1] := by rw [bBs, if_neg h]
/-- a house buys -/
theorem cu_buys {ad : Nat → Nat} {w : Nat → Int32} {h : HP} {n v t : Int32} (hi : cI ad w) (k : Nat) (hk : k < 20) (hv : ¬ v = 0) : hu (hu (hu (cH ad w h) (ad (30 + k)) (bO 12 [.ref (ad (50 + k)), .int 1, .int 1])) (ad (50 + k)) (bWd v)) (ad (10 + k)) (bO 2 [.int (nI k), .int t, .int (gDg w k), .int n, .ref (ad (30 + k))]) = cH ad (upd (upd (upd w (53 + 4 * k + 2) n) (53 + 4 * k + 3) v) (53 + 4 * k) t) h := by
  have d1 : cdom w (10 + k) = true := cdm_i (by omega)
  have d3 : cdom w (30 + k) = true := cdm_i (by omega)
  have d5 : cdom w (50 + k) = true := cdm_i (by omega)
  have e2 : upd (upd (upd w (53 + 4 * k + 2) n) (53 + 4 * k + 3) v) (53 + 4 * k) t 2 = w 2 := by rw [upd_n (by omega), upd_n (by omega), upd_n (by omega)]
  have e3 : upd (upd (upd w (53 + 4 * k + 2) n) (53 + 4 * k + 3) v) (53 + 4 * k) t 3 = w 3 := by rw [upd_n (by omega), upd_n (by omega), upd_n (by omega)]
  refine cH_up e2 e3 (fun j hj hd => ?_) (fun q hq => ?_)
  · have ed : cdom (upd (upd (upd w (53 + 4 * k + 2) n) (53 + 4 * k + 3) v) (53 + 4 * k) t) = cdom w := by rw [cdom, e2, e3]
    rw [ed] at hd
    by_cases j1 : j = 10 + k
    · subst j1
      have eg : gDg (upd (upd (upd w (53 + 4 * k + 2) n) (53 + 4 * k + 3) v) (53 + 4 * k) t) k = gDg w k := by
        unfold gDg gMd
        rw [upd_n (show 53 + 4 * k + 1 ≠ 53 + 4 * k by omega), upd_n (show 53 + 4 * k + 1 ≠ 53 + 4 * k + 3 by omega), upd_n (show 53 + 4 * k + 1 ≠ 53 + 4 * k + 2 by omega)]
      rw [hu_s, cc_h hk, cHo, upd_s, eg, upd_n (show 53 + 4 * k + 2 ≠ 53 + 4 * k by omega), upd_n (show 53 + 4 * k + 2 ≠ 53 + 4 * k + 3 by omega), upd_s]
    · rw [hu_n (fun e => j1 (hi j (10 + k) hj (by omega) hd d1 e))]
      by_cases j5 : j = 50 + k
      · subst j5
        rw [hu_s, cc_w hk, upd_n (show 53 + 4 * k + 3 ≠ 53 + 4 * k by omega), upd_s]
      · rw [hu_n (fun e => j5 (hi j (50 + k) hj (by omega) hd d5 e))]
        by_cases j3 : j = 30 + k
        · subst j3
          rw [hu_s, cc_b hk, upd_n (show 53 + 4 * k + 3 ≠ 53 + 4 * k by omega), upd_s, bBs_n hv]
        · rw [hu_n (fun e => j3 (hi j (30 + k) hj (by omega) hd d3 e)), St_cH hi j hj hd]
          refine congrArg some (ccell_cg hj (cdm_hj hd) (fun i ho => ?_))
          have hne : ∀ m, m < 4 → i ≠ 53 + 4 * k + m := by
            rintro m hm rfl
            by_cases m3 : m = 3
            · subst m3
              rw [ow_b hk] at ho
              unfold key at ho
              (repeat' split at ho) <;> omega
            · rw [ow_h m hk (by omega)] at ho
              exact j1 (key_i (by omega) ho)
          rw [upd_n (show i ≠ 53 + 4 * k from hne 0 (by decide)), upd_n (hne 3 (by decide)), upd_n (hne 2 (by decide))]
  · rw [hu_n (Ne.symm (fam_no hq (by omega) d1)), hu_n (Ne.symm (fam_no hq (by omega) d5)), hu_n (Ne.symm (fam_no hq (by omega) d3)), cH, ov_n hq]
/-- the list of sales with one item more -/
def addQ (ad : Nat → Nat) (w : Nat → Int32) (H : HP) (qs qn : Nat) (h' : HP) : Prop :=
  (tn (w 3) = 0 ∧ h' = hu (hu H qn (bO 18 [.ref qs, .null, .null])) (ad 5) (bO 11 [.int (w 3 + 1), .int (w 3 + 1), .ref qn, .ref qn])) ∨ (∃ m, tn (w 3) = m + 1 ∧ h' = hu (hu (hu H qn (bO 18 [.ref qs, .null, .ref (nd ad m)])) (ad 5) (bO 11 [.int (w 3 + 1), .int (w 3 + 1), va_rf (inx (nd ad) (tn (w 3)) 0), .ref qn])) (nd ad m) (bO 18 [.ref (its ad m), .ref qn, va_rf (ipv (nd ad) m)]))
theorem ow_inl {k i : Nat} (h1 : 133 + 7 * k ≤ i) (h2 : i < 140 + 7 * k) : owr i = 80 + 2 * k := by
  obtain ⟨m, rfl⟩ : ∃ m, i = 133 + 7 * k + m := ⟨i - (133 + 7 * k), by omega⟩
  exact ow_l m (by omega)
theorem add_sale {H H' : HP} {ad : Nat → Nat} {w w' : Nat → Int32} {qa qn k : Nat} (hi : cI ad w) (hS : St H ad w) (h24 : tn (w 2) ≤ 4) (hk : tn (w 3) = k) (hk40 : k < 40) (hk' : tn (w' 3) = k + 1) (e3 : w' 3 = w 3 + 1) (e2 : w' 2 = w 2) (na : cF ad w qa = none) (nn : cF ad w qn = none) (hab : qa ≠ qn) (eo : ∀ i, i ≠ 3 → i ≠ 6 → i ≠ 7 → ¬ (133 + 7 * k ≤ i ∧ i < 140 + 7 * k) → w' i = w i) (hX : H qa = some (cSa w' k)) (hH : addQ ad w H qa qn H') : ∃ ad' : Nat → Nat, (∀ j, j ≠ 80 + 2 * k → j ≠ 81 + 2 * k → ad' j = ad j) ∧ ad' (80 + 2 * k) = qa ∧ ad' (81 + 2 * k) = qn ∧ cI ad' w' ∧ St H' ad' w' := by
  have hdd : ∀ j, cdom w' j = true → j ≠ 80 + 2 * k → j ≠ 81 + 2 * k → cdom w j = true := fun j h h1 h2 => cdm_i (by
    have := cdm_e h
    rw [hk', e2] at this
    rw [hk]
    omega)
  have d5 : cdom w 5 = true := cdm_i (by omega)
  have nak : ∀ j, j < 160 → cdom w j = true → ad j ≠ qa := fun j hj hd => fam_no na hj hd
  have nnk : ∀ j, j < 160 → cdom w j = true → ad j ≠ qn := fun j hj hd => fam_no nn hj hd
  generalize hA : upN (upN ad (80 + 2 * k) qa) (81 + 2 * k) qn = ad'
  have ea : ∀ j, j ≠ 80 + 2 * k → j ≠ 81 + 2 * k → ad' j = ad j := fun j h1 h2 => by rw [← hA, upN_n h2, upN_n h1]
  have e80 : ad' (80 + 2 * k) = qa := by rw [← hA, upN_n (by omega), upN_s]
  have e81 : ad' (81 + 2 * k) = qn := by rw [← hA, upN_s]
  have hi' : cI ad' w' := by
    intro i j hi1 hj1 di dj e
    by_cases i1 : i = 80 + 2 * k
    · subst i1
      by_cases j1 : j = 80 + 2 * k
      · exact j1.symm
      · by_cases j2 : j = 81 + 2 * k
        · subst j2; rw [e80, e81] at e; exact absurd e hab
        · rw [e80, ea j j1 j2] at e; exact absurd e.symm (nak j hj1 (hdd j dj j1 j2))
    · by_cases i2 : i = 81 + 2 * k
      · subst i2
        by_cases j1 : j = 80 + 2 * k
        · subst j1; rw [e80, e81] at e; exact absurd e.symm hab
        · by_cases j2 : j = 81 + 2 * k
          · exact j2.symm
          · rw [e81, ea j j1 j2] at e; exact absurd e.symm (nnk j hj1 (hdd j dj j1 j2))
      · by_cases j1 : j = 80 + 2 * k
        · subst j1; rw [e80, ea i i1 i2] at e; exact absurd e (nak i hi1 (hdd i di i1 i2))
        · by_cases j2 : j = 81 + 2 * k
          · subst j2; rw [e81, ea i i1 i2] at e; exact absurd e (nnk i hi1 (hdd i di i1 i2))
          · rw [ea i i1 i2, ea j j1 j2] at e; exact hi i j hi1 hj1 (hdd i di i1 i2) (hdd j dj j1 j2) e
  -- the places other than the list, the last node and the new ones
  have rest : ∀ j, j < 160 → cdom w j = true → j ≠ 5 → ¬ (81 ≤ j ∧ j % 2 = 1) → ccell ad w j = ccell ad' w' j := fun j hj hd j5 jn => ccell_re hj hd (fun i hu => (ea i (by rintro rfl; unfold cuse at hu; omega) (by rintro rfl; unfold cuse at hu; omega)).symm) (fun i ho => (eo i (by
      rintro rfl
      have e9 : owr 3 = 5 := rfl
      rw [e9] at ho
      unfold key at ho
      (repeat' split at ho) <;> omega) (by
      rintro rfl
      have e9 : owr 6 = 200 := rfl
      rw [e9] at ho
      unfold key at ho
      (repeat' split at ho) <;> omega) (by
      rintro rfl
      have e9 : owr 7 = 200 := rfl
      rw [e9] at ho
      unfold key at ho
      (repeat' split at ho) <;> omega) (by
      rintro ⟨a1, a2⟩
      rw [ow_inl a1 a2] at ho
      have := key_i (by omega) ho
      subst this
      have := cdm_e hd
      omega)).symm)
  have en : ∀ m, m < k → nd ad' m = nd ad m := fun m hm => ea (81 + 2 * m) (by omega) (by omega)
  have enk : nd ad' k = qn := e81
  have eit : ∀ m, m < k → its ad' m = its ad m := fun m hm => ea (80 + 2 * m) (by omega) (by omega)
  have a5 : ad' 5 = ad 5 := ea 5 (by omega) (by omega)
  refine ⟨ad', ea, e80, e81, hi', fun j hj hd => ?_⟩
  rcases hH with ⟨k0, rfl⟩ | ⟨m, km, rfl⟩
  · have hk0 : k = 0 := by omega
    by_cases j1 : j = 80 + 2 * k
    · subst j1
      rw [e80, hu_n (Ne.symm (nak 5 (by decide) d5)), hu_n hab, hX, cc_l (by omega)]
    · by_cases j2 : j = 81 + 2 * k
      · subst j2
        rw [e81, hu_n (Ne.symm (nnk 5 (by decide) d5)), hu_s, cc_n (by omega), hk', bNd]
        rw [show its ad' k = qa from e80, inx_n (Nat.le_refl _), hk0, ipv_0]
        rfl
      · have dj := hdd j hd j1 j2
        rw [ea j j1 j2]
        by_cases j5 : j = 5
        · subst j5
          rw [hu_s, cc_5, hk', bLL, inx_s (by omega), ipv_s, enk, show nd ad' 0 = qn from by rw [← hk0]; exact enk, e3]
          rfl
        · rw [hu_n (fun e => j5 (hi j 5 hj (by decide) dj d5 e)), hu_n (nnk j hj dj), hS j hj dj]
          refine congrArg some (rest j hj dj j5 (fun jo => ?_))
          have := cdm_e dj
          omega
  · have hkm : k = m + 1 := by omega
    have dm : cdom w (81 + 2 * m) = true := cdm_i (by omega)
    by_cases j1 : j = 80 + 2 * k
    · subst j1
      rw [e80, hu_n (Ne.symm (nak (81 + 2 * m) (by omega) dm)), hu_n (Ne.symm (nak 5 (by decide) d5)), hu_n hab, hX, cc_l (by omega)]
    · by_cases j2 : j = 81 + 2 * k
      · subst j2
        rw [e81, hu_n (Ne.symm (nnk (81 + 2 * m) (by omega) dm)), hu_n (Ne.symm (nnk 5 (by decide) d5)), hu_s, cc_n (by omega), hk', bNd]
        rw [show its ad' k = qa from e80, inx_n (Nat.le_refl _), hkm, ipv_s, en m (by omega)]
        rfl
      · have dj := hdd j hd j1 j2
        rw [ea j j1 j2]
        by_cases j5 : j = 5
        · subst j5
          have q0 : inx (nd ad') (k + 1) 0 = some (nd ad 0) := by rw [inx_s (by omega), en 0 (by omega)]
          have q1 : inx (nd ad) k 0 = some (nd ad 0) := inx_s (by omega)
          rw [hu_n (fun e => absurd (hi 5 (81 + 2 * m) (by decide) (by omega) d5 dm e) (by omega)), hu_s, cc_5, hk', bLL, q0, ipv_s, enk, hk, q1, e3]
          rfl
        · by_cases jm : j = 81 + 2 * m
          · subst jm
            rw [hu_s, cc_n (by omega), hk', bNd, inx_s (by omega), ← hkm, enk, eit m (by omega), ipv_ad (n := m) (fun q hq => en q (by omega)) (Nat.le_refl _)]
            rfl
          · rw [hu_n (fun e => jm (hi j (81 + 2 * m) hj (by omega) dj dm e)), hu_n (fun e => j5 (hi j 5 hj (by decide) dj d5 e)), hu_n (nnk j hj dj), hS j hj dj]
            by_cases jo : 81 ≤ j ∧ j % 2 = 1
            · obtain ⟨i, rfl⟩ : ∃ i, j = 81 + 2 * i := ⟨(j - 81) / 2, by omega⟩
              have hik := cdm_e dj
              have him : i < m := by omega
              rw [cc_n (by omega), cc_n (by omega), hk', hk, bNd, bNd, inx_s (by omega), inx_s (by omega), eit i (by omega), en (i + 1) (by omega), ipv_ad (nd := nd ad') (nd' := nd ad) (n := i) (fun q hq => en q (by omega)) (Nat.le_refl _)]
            · exact congrArg some (rest j hj dj j5 jo)
set_option maxHeartbeats 4000000 in
set_option maxRecDepth 100000 in
theorem sp_X1_sells0 {G : GG} {h : HP} {ad : Nat → Nat} {w : Nat → Int32} (hi : cI ad w) (k b : Nat) (hk : k < 4) (hs : k < tn (w 2)) (hb : b < 3) (qs : Nat) {a0 a1 n p g : Int32} (hqF : cF ad w qs = none) (hqs : h qs = some (bO 5 [.int a0, .int a1, .int (nI b), .int n, .int p, .int g, .int 0])) (hN3 : (w 3).toInt = (tn (w 3) : Int)) (hN40 : tn (w 3) < 40) (h0 : tn (w 3) = 0) : Ct G 4 4 M_X1_sells [.ref (ad 0), .ref (ad (70 + k)), .ref qs] (cH ad w h) (rQ (fun v h' => v = none ∧ ∃ qn, cH ad (upd (upd (upd (upd w (17 + 9 * k + (3 + b)) (w (17 + 9 * k + (3 + b)) - n)) (17 + 9 * k + 6) (w (17 + 9 * k + 6) + n)) (4) (w 4 + n * p)) (9) (w 9 + n * p)) h qn = none ∧ addQ ad (upd (upd (upd (upd w (17 + 9 * k + (3 + b)) (w (17 + 9 * k + (3 + b)) - n)) (17 + 9 * k + 6) (w (17 + 9 * k + 6) + n)) (4) (w 4 + n * p)) (9) (w 9 + n * p)) (cH ad (upd (upd (upd (upd w (17 + 9 * k + (3 + b)) (w (17 + 9 * k + (3 + b)) - n)) (17 + 9 * k + 6) (w (17 + 9 * k + 6) + n)) (4) (w 4 + n * p)) (9) (w 9 + n * p)) h) qs qn h')) := by
  refine ct_intro my_X1_sells (Nat.le_of_ble_eq_true rfl) ?_
  have eb := nIn (show b < 1000 by omega)
  have i0 : cI ad w := hi
  have t0 : w 2 = w 2 := rfl
  have r0 : w 3 = w 3 := rfl
  have f0 : cH ad w h qs = some (bO 5 [.int a0, .int a1, .int (nI b), .int n, .int p, .int g, .int 0]) := (ov_n hqF).trans hqs
  first | refine r_aload_n dX1_sells_0 rfl ?_ | refine r_aload_nq dX1_sells_0 rfl ?_ | refine r_aload_nN dX1_sells_0 rfl ?_
  refine r_getfieldN 4 3 dX1_sells_1 rfl (Nat.le_of_ble_eq_true rfl) (lkT q880 rfl) (Or.inl rfl) (Or.inl (c_s i0 k hk (by rw [t0]; exact hs))) (by rfl) ?_
  first | refine r_aload_n dX1_sells_4 rfl ?_ | refine r_aload_nq dX1_sells_4 rfl ?_ | refine r_aload_nN dX1_sells_4 rfl ?_
  refine r_getfieldN 5 2 dX1_sells_5 rfl (Nat.le_of_ble_eq_true rfl) (lkT q989 rfl) (Or.inl rfl) (Or.inl f0) (by rfl) ?_
  refine r_dup2 dX1_sells_8 rfl rfl ?_
  refine r_iaload (b) dX1_sells_9 (Or.inl (c_r i0 k hk (by rw [t0]; exact hs))) eb hb (fBr_at hb) ?_
  first | refine r_aload_n dX1_sells_10 rfl ?_ | refine r_aload_nq dX1_sells_10 rfl ?_ | refine r_aload_nN dX1_sells_10 rfl ?_
  refine r_getfieldN 5 3 dX1_sells_11 rfl (Nat.le_of_ble_eq_true rfl) (lkT q991 rfl) (Or.inl rfl) (Or.inl f0) (by rfl) ?_
  refine r_isub dX1_sells_14 ?_
  refine r_iastore (b) dX1_sells_15 (c_r i0 k hk (by rw [t0]; exact hs)) eb hb ?_
  rw [cu_r i0 k b hk hs hb]
  have i1 : cI ad (upd w (17 + 9 * k + (3 + b)) (w (17 + 9 * k + (3 + b)) - n)) := cI_u i0 (by omega) (by omega)
  have t1 : (upd w (17 + 9 * k + (3 + b)) (w (17 + 9 * k + (3 + b)) - n)) 2 = w 2 := (upd_n (by omega)).trans t0
  have r1 : (upd w (17 + 9 * k + (3 + b)) (w (17 + 9 * k + (3 + b)) - n)) 3 = w 3 := (upd_n (by omega)).trans r0
  have n1 : cF ad (upd w (17 + 9 * k + (3 + b)) (w (17 + 9 * k + (3 + b)) - n)) qs = none := cF_no hqF t1 r1
  have f1 : cH ad (upd w (17 + 9 * k + (3 + b)) (w (17 + 9 * k + (3 + b)) - n)) h qs = some (bO 5 [.int a0, .int a1, .int (nI b), .int n, .int p, .int g, .int 0]) := (ov_n n1).trans hqs
  first | refine r_aload_n dX1_sells_16 rfl ?_ | refine r_aload_nq dX1_sells_16 rfl ?_ | refine r_aload_nN dX1_sells_16 rfl ?_
  refine r_dup dX1_sells_17 rfl ?_
  refine r_getfieldN 4 4 dX1_sells_18 rfl (Nat.le_of_ble_eq_true rfl) (lkT q882 rfl) (Or.inl rfl) (Or.inl (c_s i1 k hk (by rw [t1]; exact hs))) (show some (Value.int ((upd w (17 + 9 * k + (3 + b)) (w (17 + 9 * k + (3 + b)) - n)) (17 + 9 * k + 6))) = some (Value.int (w (17 + 9 * k + 6))) from congrArg (fun z => some (Value.int z)) (by repeat rw [upd_n (by omega)])) ?_
  first | refine r_aload_n dX1_sells_21 rfl ?_ | refine r_aload_nq dX1_sells_21 rfl ?_ | refine r_aload_nN dX1_sells_21 rfl ?_
  refine r_getfieldN 5 3 dX1_sells_22 rfl (Nat.le_of_ble_eq_true rfl) (lkT q991 rfl) (Or.inl rfl) (Or.inl f1) (by rfl) ?_
  refine r_iadd dX1_sells_25 ?_
  refine r_putN 4 4 dX1_sells_26 rfl (Nat.le_of_ble_eq_true rfl) (lkT q882 rfl) (Or.inl rfl) rfl (c_s i1 k hk (by rw [t1]; exact hs)) (by dsimp only [List.set]) (Nat.le_of_ble_eq_true rfl) rfl rfl (cu_s6 i1 k hk (by rw [t1]; exact hs)) ?_
  have i2 : cI ad (upd (upd w (17 + 9 * k + (3 + b)) (w (17 + 9 * k + (3 + b)) - n)) (17 + 9 * k + 6) (w (17 + 9 * k + 6) + n)) := cI_u i1 (by omega) (by omega)
  have t2 : (upd (upd w (17 + 9 * k + (3 + b)) (w (17 + 9 * k + (3 + b)) - n)) (17 + 9 * k + 6) (w (17 + 9 * k + 6) + n)) 2 = w 2 := (upd_n (by omega)).trans t1
  have r2 : (upd (upd w (17 + 9 * k + (3 + b)) (w (17 + 9 * k + (3 + b)) - n)) (17 + 9 * k + 6) (w (17 + 9 * k + 6) + n)) 3 = w 3 := (upd_n (by omega)).trans r1
  have n2 : cF ad (upd (upd w (17 + 9 * k + (3 + b)) (w (17 + 9 * k + (3 + b)) - n)) (17 + 9 * k + 6) (w (17 + 9 * k + 6) + n)) qs = none := cF_no hqF t2 r2
  have f2 : cH ad (upd (upd w (17 + 9 * k + (3 + b)) (w (17 + 9 * k + (3 + b)) - n)) (17 + 9 * k + 6) (w (17 + 9 * k + 6) + n)) h qs = some (bO 5 [.int a0, .int a1, .int (nI b), .int n, .int p, .int g, .int 0]) := (ov_n n2).trans hqs
  first | refine r_aload_n dX1_sells_29 rfl ?_ | refine r_aload_nq dX1_sells_29 rfl ?_ | refine r_aload_nN dX1_sells_29 rfl ?_
  refine r_dup dX1_sells_30 rfl ?_
  refine r_getfield 1 6 dX1_sells_31 rfl (Nat.le_of_ble_eq_true rfl) (lkA q308) (Or.inl rfl) (Or.inl (c_0 i2)) (show some (Value.int ((upd (upd w (17 + 9 * k + (3 + b)) (w (17 + 9 * k + (3 + b)) - n)) (17 + 9 * k + 6) (w (17 + 9 * k + 6) + n)) (4))) = some (Value.int (w (4))) from congrArg (fun z => some (Value.int z)) (by repeat rw [upd_n (by omega)])) ?_
  first | refine r_aload_n dX1_sells_34 rfl ?_ | refine r_aload_nq dX1_sells_34 rfl ?_ | refine r_aload_nN dX1_sells_34 rfl ?_
  refine r_invV dX1_sells_35 (sp_X5_coins f2) rfl mo_X5_coins (Or.inl f2) rfl (lkA q1386) (lkA q1387) (lkA q1388) rfl (lkA q96) mp_X5_coins (Nat.le_of_ble_eq_true rfl) (Nat.le_of_ble_eq_true rfl) (Nat.le_of_ble_eq_true rfl) (kr_e ?_) kx_e
  refine r_iadd dX1_sells_38 ?_
  refine r_put 1 6 dX1_sells_39 rfl (Nat.le_of_ble_eq_true rfl) (lkA q308) (Or.inl rfl) rfl (c_0 i2) (by dsimp only [List.set]) (Nat.le_of_ble_eq_true rfl) rfl rfl (cu_4 i2) ?_
  have i3 : cI ad (upd (upd (upd w (17 + 9 * k + (3 + b)) (w (17 + 9 * k + (3 + b)) - n)) (17 + 9 * k + 6) (w (17 + 9 * k + 6) + n)) (4) (w 4 + n * p)) := cI_u i2 (by omega) (by omega)
  have t3 : (upd (upd (upd w (17 + 9 * k + (3 + b)) (w (17 + 9 * k + (3 + b)) - n)) (17 + 9 * k + 6) (w (17 + 9 * k + 6) + n)) (4) (w 4 + n * p)) 2 = w 2 := (upd_n (by omega)).trans t2
  have r3 : (upd (upd (upd w (17 + 9 * k + (3 + b)) (w (17 + 9 * k + (3 + b)) - n)) (17 + 9 * k + 6) (w (17 + 9 * k + 6) + n)) (4) (w 4 + n * p)) 3 = w 3 := (upd_n (by omega)).trans r2
  have n3 : cF ad (upd (upd (upd w (17 + 9 * k + (3 + b)) (w (17 + 9 * k + (3 + b)) - n)) (17 + 9 * k + 6) (w (17 + 9 * k + 6) + n)) (4) (w 4 + n * p)) qs = none := cF_no hqF t3 r3
  have f3 : cH ad (upd (upd (upd w (17 + 9 * k + (3 + b)) (w (17 + 9 * k + (3 + b)) - n)) (17 + 9 * k + 6) (w (17 + 9 * k + 6) + n)) (4) (w 4 + n * p)) h qs = some (bO 5 [.int a0, .int a1, .int (nI b), .int n, .int p, .int g, .int 0]) := (ov_n n3).trans hqs
  first | refine r_aload_n dX1_sells_42 rfl ?_ | refine r_aload_nq dX1_sells_42 rfl ?_ | refine r_aload_nN dX1_sells_42 rfl ?_
  refine r_dup dX1_sells_43 rfl ?_
  refine r_getfield 1 7 dX1_sells_44 rfl (Nat.le_of_ble_eq_true rfl) (lkA q310) (Or.inl rfl) (Or.inl (c_0 i3)) (show some (Value.int ((upd (upd (upd w (17 + 9 * k + (3 + b)) (w (17 + 9 * k + (3 + b)) - n)) (17 + 9 * k + 6) (w (17 + 9 * k + 6) + n)) (4) (w 4 + n * p)) (9))) = some (Value.int (w (9))) from congrArg (fun z => some (Value.int z)) (by repeat rw [upd_n (by omega)])) ?_
  first | refine r_aload_n dX1_sells_47 rfl ?_ | refine r_aload_nq dX1_sells_47 rfl ?_ | refine r_aload_nN dX1_sells_47 rfl ?_
  refine r_invV dX1_sells_48 (sp_X5_coins f3) rfl mo_X5_coins (Or.inl f3) rfl (lkA q1386) (lkA q1387) (lkA q1388) rfl (lkA q96) mp_X5_coins (Nat.le_of_ble_eq_true rfl) (Nat.le_of_ble_eq_true rfl) (Nat.le_of_ble_eq_true rfl) (kr_e ?_) kx_e
  refine r_iadd dX1_sells_51 ?_
  refine r_put 1 7 dX1_sells_52 rfl (Nat.le_of_ble_eq_true rfl) (lkA q310) (Or.inl rfl) rfl (c_0 i3) (by dsimp only [List.set]) (Nat.le_of_ble_eq_true rfl) rfl rfl (cu_9 i3) ?_
  have i4 : cI ad (upd (upd (upd (upd w (17 + 9 * k + (3 + b)) (w (17 + 9 * k + (3 + b)) - n)) (17 + 9 * k + 6) (w (17 + 9 * k + 6) + n)) (4) (w 4 + n * p)) (9) (w 9 + n * p)) := cI_u i3 (by omega) (by omega)
  have t4 : (upd (upd (upd (upd w (17 + 9 * k + (3 + b)) (w (17 + 9 * k + (3 + b)) - n)) (17 + 9 * k + 6) (w (17 + 9 * k + 6) + n)) (4) (w 4 + n * p)) (9) (w 9 + n * p)) 2 = w 2 := (upd_n (by omega)).trans t3
  have r4 : (upd (upd (upd (upd w (17 + 9 * k + (3 + b)) (w (17 + 9 * k + (3 + b)) - n)) (17 + 9 * k + 6) (w (17 + 9 * k + 6) + n)) (4) (w 4 + n * p)) (9) (w 9 + n * p)) 3 = w 3 := (upd_n (by omega)).trans r3
  have n4 : cF ad (upd (upd (upd (upd w (17 + 9 * k + (3 + b)) (w (17 + 9 * k + (3 + b)) - n)) (17 + 9 * k + 6) (w (17 + 9 * k + 6) + n)) (4) (w 4 + n * p)) (9) (w 9 + n * p)) qs = none := cF_no hqF t4 r4
  have f4 : cH ad (upd (upd (upd (upd w (17 + 9 * k + (3 + b)) (w (17 + 9 * k + (3 + b)) - n)) (17 + 9 * k + 6) (w (17 + 9 * k + 6) + n)) (4) (w 4 + n * p)) (9) (w 9 + n * p)) h qs = some (bO 5 [.int a0, .int a1, .int (nI b), .int n, .int p, .int g, .int 0]) := (ov_n n4).trans hqs
  first | refine r_aload_n dX1_sells_55 rfl ?_ | refine r_aload_nq dX1_sells_55 rfl ?_ | refine r_aload_nN dX1_sells_55 rfl ?_
  refine r_getfield 1 2 dX1_sells_56 rfl (Nat.le_of_ble_eq_true rfl) (lkA q300) (Or.inl rfl) (Or.inl (c_0 i4)) (by rfl) ?_
  first | refine r_aload_n dX1_sells_59 rfl ?_ | refine r_aload_nq dX1_sells_59 rfl ?_ | refine r_aload_nN dX1_sells_59 rfl ?_
  refine r_invV dX1_sells_60 (sp_J4_addLast0 (c_5 i4) (by rw [r4]; exact hN3) (by rw [r4]; exact h0)) rfl mo_J4_addLast (Or.inl (c_5 i4)) rfl (lkA q1012) (lkA q1013) (lkA q1014) rfl (lkA q70) mp_J4_addLast (Nat.le_of_ble_eq_true rfl) (Nat.le_of_ble_eq_true rfl) (Nat.le_of_ble_eq_true rfl) (kr_r (fun v9 h9 p9 => ?_)) kx_r
  obtain ⟨rfl, qn, hqn, rfl⟩ := p9
  exact r_return dX1_sells_63 rfl ⟨rfl, qn, hqn, Or.inl ⟨by rw [r4]; exact h0, rfl⟩⟩

set_option maxHeartbeats 4000000 in
set_option maxRecDepth 100000 in
theorem sp_X1_sells1 {G : GG} {h : HP} {ad : Nat → Nat} {w : Nat → Int32} (hi : cI ad w) (k b : Nat) (hk : k < 4) (hs : k < tn (w 2)) (hb : b < 3) (qs : Nat) {a0 a1 n p g : Int32} (hqF : cF ad w qs = none) (hqs : h qs = some (bO 5 [.int a0, .int a1, .int (nI b), .int n, .int p, .int g, .int 0])) (hN3 : (w 3).toInt = (tn (w 3) : Int)) (hN40 : tn (w 3) < 40) (m : Nat) (h0 : tn (w 3) = m + 1) : Ct G 4 4 M_X1_sells [.ref (ad 0), .ref (ad (70 + k)), .ref qs] (cH ad w h) (rQ (fun v h' => v = none ∧ ∃ qn, cH ad (upd (upd (upd (upd w (17 + 9 * k + (3 + b)) (w (17 + 9 * k + (3 + b)) - n)) (17 + 9 * k + 6) (w (17 + 9 * k + 6) + n)) (4) (w 4 + n * p)) (9) (w 9 + n * p)) h qn = none ∧ addQ ad (upd (upd (upd (upd w (17 + 9 * k + (3 + b)) (w (17 + 9 * k + (3 + b)) - n)) (17 + 9 * k + 6) (w (17 + 9 * k + 6) + n)) (4) (w 4 + n * p)) (9) (w 9 + n * p)) (cH ad (upd (upd (upd (upd w (17 + 9 * k + (3 + b)) (w (17 + 9 * k + (3 + b)) - n)) (17 + 9 * k + 6) (w (17 + 9 * k + 6) + n)) (4) (w 4 + n * p)) (9) (w 9 + n * p)) h) qs qn h')) := by
  refine ct_intro my_X1_sells (Nat.le_of_ble_eq_true rfl) ?_
  have eb := nIn (show b < 1000 by omega)
  have i0 : cI ad w := hi
  have t0 : w 2 = w 2 := rfl
  have r0 : w 3 = w 3 := rfl
  have f0 : cH ad w h qs = some (bO 5 [.int a0, .int a1, .int (nI b), .int n, .int p, .int g, .int 0]) := (ov_n hqF).trans hqs
  first | refine r_aload_n dX1_sells_0 rfl ?_ | refine r_aload_nq dX1_sells_0 rfl ?_ | refine r_aload_nN dX1_sells_0 rfl ?_
  refine r_getfieldN 4 3 dX1_sells_1 rfl (Nat.le_of_ble_eq_true rfl) (lkT q880 rfl) (Or.inl rfl) (Or.inl (c_s i0 k hk (by rw [t0]; exact hs))) (by rfl) ?_
  first | refine r_aload_n dX1_sells_4 rfl ?_ | refine r_aload_nq dX1_sells_4 rfl ?_ | refine r_aload_nN dX1_sells_4 rfl ?_
  refine r_getfieldN 5 2 dX1_sells_5 rfl (Nat.le_of_ble_eq_true rfl) (lkT q989 rfl) (Or.inl rfl) (Or.inl f0) (by rfl) ?_
  refine r_dup2 dX1_sells_8 rfl rfl ?_
  refine r_iaload (b) dX1_sells_9 (Or.inl (c_r i0 k hk (by rw [t0]; exact hs))) eb hb (fBr_at hb) ?_
  first | refine r_aload_n dX1_sells_10 rfl ?_ | refine r_aload_nq dX1_sells_10 rfl ?_ | refine r_aload_nN dX1_sells_10 rfl ?_
  refine r_getfieldN 5 3 dX1_sells_11 rfl (Nat.le_of_ble_eq_true rfl) (lkT q991 rfl) (Or.inl rfl) (Or.inl f0) (by rfl) ?_
  refine r_isub dX1_sells_14 ?_
  refine r_iastore (b) dX1_sells_15 (c_r i0 k hk (by rw [t0]; exact hs)) eb hb ?_
  rw [cu_r i0 k b hk hs hb]
  have i1 : cI ad (upd w (17 + 9 * k + (3 + b)) (w (17 + 9 * k + (3 + b)) - n)) := cI_u i0 (by omega) (by omega)
  have t1 : (upd w (17 + 9 * k + (3 + b)) (w (17 + 9 * k + (3 + b)) - n)) 2 = w 2 := (upd_n (by omega)).trans t0
  have r1 : (upd w (17 + 9 * k + (3 + b)) (w (17 + 9 * k + (3 + b)) - n)) 3 = w 3 := (upd_n (by omega)).trans r0
  have n1 : cF ad (upd w (17 + 9 * k + (3 + b)) (w (17 + 9 * k + (3 + b)) - n)) qs = none := cF_no hqF t1 r1
  have f1 : cH ad (upd w (17 + 9 * k + (3 + b)) (w (17 + 9 * k + (3 + b)) - n)) h qs = some (bO 5 [.int a0, .int a1, .int (nI b), .int n, .int p, .int g, .int 0]) := (ov_n n1).trans hqs
  first | refine r_aload_n dX1_sells_16 rfl ?_ | refine r_aload_nq dX1_sells_16 rfl ?_ | refine r_aload_nN dX1_sells_16 rfl ?_
  refine r_dup dX1_sells_17 rfl ?_
  refine r_getfieldN 4 4 dX1_sells_18 rfl (Nat.le_of_ble_eq_true rfl) (lkT q882 rfl) (Or.inl rfl) (Or.inl (c_s i1 k hk (by rw [t1]; exact hs))) (show some (Value.int ((upd w (17 + 9 * k + (3 + b)) (w (17 + 9 * k + (3 + b)) - n)) (17 + 9 * k + 6))) = some (Value.int (w (17 + 9 * k + 6))) from congrArg (fun z => some (Value.int z)) (by repeat rw [upd_n (by omega)])) ?_
  first | refine r_aload_n dX1_sells_21 rfl ?_ | refine r_aload_nq dX1_sells_21 rfl ?_ | refine r_aload_nN dX1_sells_21 rfl ?_
  refine r_getfieldN 5 3 dX1_sells_22 rfl (Nat.le_of_ble_eq_true rfl) (lkT q991 rfl) (Or.inl rfl) (Or.inl f1) (by rfl) ?_
  refine r_iadd dX1_sells_25 ?_
  refine r_putN 4 4 dX1_sells_26 rfl (Nat.le_of_ble_eq_true rfl) (lkT q882 rfl) (Or.inl rfl) rfl (c_s i1 k hk (by rw [t1]; exact hs)) (by dsimp only [List.set]) (Nat.le_of_ble_eq_true rfl) rfl rfl (cu_s6 i1 k hk (by rw [t1]; exact hs)) ?_
  have i2 : cI ad (upd (upd w (17 + 9 * k + (3 + b)) (w (17 + 9 * k + (3 + b)) - n)) (17 + 9 * k + 6) (w (17 + 9 * k + 6) + n)) := cI_u i1 (by omega) (by omega)
  have t2 : (upd (upd w (17 + 9 * k + (3 + b)) (w (17 + 9 * k + (3 + b)) - n)) (17 + 9 * k + 6) (w (17 + 9 * k + 6) + n)) 2 = w 2 := (upd_n (by omega)).trans t1
  have r2 : (upd (upd w (17 + 9 * k + (3 + b)) (w (17 + 9 * k + (3 + b)) - n)) (17 + 9 * k + 6) (w (17 + 9 * k + 6) + n)) 3 = w 3 := (upd_n (by omega)).trans r1
  have n2 : cF ad (upd (upd w (17 + 9 * k + (3 + b)) (w (17 + 9 * k + (3 + b)) - n)) (17 + 9 * k + 6) (w (17 + 9 * k + 6) + n)) qs = none := cF_no hqF t2 r2
  have f2 : cH ad (upd (upd w (17 + 9 * k + (3 + b)) (w (17 + 9 * k + (3 + b)) - n)) (17 + 9 * k + 6) (w (17 + 9 * k + 6) + n)) h qs = some (bO 5 [.int a0, .int a1, .int (nI b), .int n, .int p, .int g, .int 0]) := (ov_n n2).trans hqs
  first | refine r_aload_n dX1_sells_29 rfl ?_ | refine r_aload_nq dX1_sells_29 rfl ?_ | refine r_aload_nN dX1_sells_29 rfl ?_
  refine r_dup dX1_sells_30 rfl ?_
  refine r_getfield 1 6 dX1_sells_31 rfl (Nat.le_of_ble_eq_true rfl) (lkA q308) (Or.inl rfl) (Or.inl (c_0 i2)) (show some (Value.int ((upd (upd w (17 + 9 * k + (3 + b)) (w (17 + 9 * k + (3 + b)) - n)) (17 + 9 * k + 6) (w (17 + 9 * k + 6) + n)) (4))) = some (Value.int (w (4))) from congrArg (fun z => some (Value.int z)) (by repeat rw [upd_n (by omega)])) ?_
  first | refine r_aload_n dX1_sells_34 rfl ?_ | refine r_aload_nq dX1_sells_34 rfl ?_ | refine r_aload_nN dX1_sells_34 rfl ?_
  refine r_invV dX1_sells_35 (sp_X5_coins f2) rfl mo_X5_coins (Or.inl f2) rfl (lkA q1386) (lkA q1387) (lkA q1388) rfl (lkA q96) mp_X5_coins (Nat.le_of_ble_eq_true rfl) (Nat.le_of_ble_eq_true rfl) (Nat.le_of_ble_eq_true rfl) (kr_e ?_) kx_e
  refine r_iadd dX1_sells_38 ?_
  refine r_put 1 6 dX1_sells_39 rfl (Nat.le_of_ble_eq_true rfl) (lkA q308) (Or.inl rfl) rfl (c_0 i2) (by dsimp only [List.set]) (Nat.le_of_ble_eq_true rfl) rfl rfl (cu_4 i2) ?_
  have i3 : cI ad (upd (upd (upd w (17 + 9 * k + (3 + b)) (w (17 + 9 * k + (3 + b)) - n)) (17 + 9 * k + 6) (w (17 + 9 * k + 6) + n)) (4) (w 4 + n * p)) := cI_u i2 (by omega) (by omega)
  have t3 : (upd (upd (upd w (17 + 9 * k + (3 + b)) (w (17 + 9 * k + (3 + b)) - n)) (17 + 9 * k + 6) (w (17 + 9 * k + 6) + n)) (4) (w 4 + n * p)) 2 = w 2 := (upd_n (by omega)).trans t2
  have r3 : (upd (upd (upd w (17 + 9 * k + (3 + b)) (w (17 + 9 * k + (3 + b)) - n)) (17 + 9 * k + 6) (w (17 + 9 * k + 6) + n)) (4) (w 4 + n * p)) 3 = w 3 := (upd_n (by omega)).trans r2
  have n3 : cF ad (upd (upd (upd w (17 + 9 * k + (3 + b)) (w (17 + 9 * k + (3 + b)) - n)) (17 + 9 * k + 6) (w (17 + 9 * k + 6) + n)) (4) (w 4 + n * p)) qs = none := cF_no hqF t3 r3
  have f3 : cH ad (upd (upd (upd w (17 + 9 * k + (3 + b)) (w (17 + 9 * k + (3 + b)) - n)) (17 + 9 * k + 6) (w (17 + 9 * k + 6) + n)) (4) (w 4 + n * p)) h qs = some (bO 5 [.int a0, .int a1, .int (nI b), .int n, .int p, .int g, .int 0]) := (ov_n n3).trans hqs
  first | refine r_aload_n dX1_sells_42 rfl ?_ | refine r_aload_nq dX1_sells_42 rfl ?_ | refine r_aload_nN dX1_sells_42 rfl ?_
  refine r_dup dX1_sells_43 rfl ?_
  refine r_getfield 1 7 dX1_sells_44 rfl (Nat.le_of_ble_eq_true rfl) (lkA q310) (Or.inl rfl) (Or.inl (c_0 i3)) (show some (Value.int ((upd (upd (upd w (17 + 9 * k + (3 + b)) (w (17 + 9 * k + (3 + b)) - n)) (17 + 9 * k + 6) (w (17 + 9 * k + 6) + n)) (4) (w 4 + n * p)) (9))) = some (Value.int (w (9))) from congrArg (fun z => some (Value.int z)) (by repeat rw [upd_n (by omega)])) ?_
  first | refine r_aload_n dX1_sells_47 rfl ?_ | refine r_aload_nq dX1_sells_47 rfl ?_ | refine r_aload_nN dX1_sells_47 rfl ?_
  refine r_invV dX1_sells_48 (sp_X5_coins f3) rfl mo_X5_coins (Or.inl f3) rfl (lkA q1386) (lkA q1387) (lkA q1388) rfl (lkA q96) mp_X5_coins (Nat.le_of_ble_eq_true rfl) (Nat.le_of_ble_eq_true rfl) (Nat.le_of_ble_eq_true rfl) (kr_e ?_) kx_e
  refine r_iadd dX1_sells_51 ?_
  refine r_put 1 7 dX1_sells_52 rfl (Nat.le_of_ble_eq_true rfl) (lkA q310) (Or.inl rfl) rfl (c_0 i3) (by dsimp only [List.set]) (Nat.le_of_ble_eq_true rfl) rfl rfl (cu_9 i3) ?_
  have i4 : cI ad (upd (upd (upd (upd w (17 + 9 * k + (3 + b)) (w (17 + 9 * k + (3 + b)) - n)) (17 + 9 * k + 6) (w (17 + 9 * k + 6) + n)) (4) (w 4 + n * p)) (9) (w 9 + n * p)) := cI_u i3 (by omega) (by omega)
  have t4 : (upd (upd (upd (upd w (17 + 9 * k + (3 + b)) (w (17 + 9 * k + (3 + b)) - n)) (17 + 9 * k + 6) (w (17 + 9 * k + 6) + n)) (4) (w 4 + n * p)) (9) (w 9 + n * p)) 2 = w 2 := (upd_n (by omega)).trans t3
  have r4 : (upd (upd (upd (upd w (17 + 9 * k + (3 + b)) (w (17 + 9 * k + (3 + b)) - n)) (17 + 9 * k + 6) (w (17 + 9 * k + 6) + n)) (4) (w 4 + n * p)) (9) (w 9 + n * p)) 3 = w 3 := (upd_n (by omega)).trans r3
  have n4 : cF ad (upd (upd (upd (upd w (17 + 9 * k + (3 + b)) (w (17 + 9 * k + (3 + b)) - n)) (17 + 9 * k + 6) (w (17 + 9 * k + 6) + n)) (4) (w 4 + n * p)) (9) (w 9 + n * p)) qs = none := cF_no hqF t4 r4
  have f4 : cH ad (upd (upd (upd (upd w (17 + 9 * k + (3 + b)) (w (17 + 9 * k + (3 + b)) - n)) (17 + 9 * k + 6) (w (17 + 9 * k + 6) + n)) (4) (w 4 + n * p)) (9) (w 9 + n * p)) h qs = some (bO 5 [.int a0, .int a1, .int (nI b), .int n, .int p, .int g, .int 0]) := (ov_n n4).trans hqs
  first | refine r_aload_n dX1_sells_55 rfl ?_ | refine r_aload_nq dX1_sells_55 rfl ?_ | refine r_aload_nN dX1_sells_55 rfl ?_
  refine r_getfield 1 2 dX1_sells_56 rfl (Nat.le_of_ble_eq_true rfl) (lkA q300) (Or.inl rfl) (Or.inl (c_0 i4)) (by rfl) ?_
  first | refine r_aload_n dX1_sells_59 rfl ?_ | refine r_aload_nq dX1_sells_59 rfl ?_ | refine r_aload_nN dX1_sells_59 rfl ?_
  refine r_invV dX1_sells_60 (sp_J4_addLast1 (c_5 i4) (by rw [r4]; exact hN3) (m := m) (by rw [r4]; exact h0) (c_n i4 m (by omega) (by rw [r4]; omega))) rfl mo_J4_addLast (Or.inl (c_5 i4)) rfl (lkA q1012) (lkA q1013) (lkA q1014) rfl (lkA q70) mp_J4_addLast (Nat.le_of_ble_eq_true rfl) (Nat.le_of_ble_eq_true rfl) (Nat.le_of_ble_eq_true rfl) (kr_r (fun v9 h9 p9 => ?_)) kx_r
  obtain ⟨rfl, qn, hqn, rfl⟩ := p9
  exact r_return dX1_sells_63 rfl ⟨rfl, qn, hqn, Or.inr ⟨m, by rw [r4]; exact h0, rfl⟩⟩

theorem sp_X1_sells {G : GG} {h : HP} {ad : Nat → Nat} {w : Nat → Int32} (hi : cI ad w) (k b : Nat) (hk : k < 4) (hs : k < tn (w 2)) (hb : b < 3) (qs : Nat) {a0 a1 n p g : Int32} (hqF : cF ad w qs = none) (hqs : h qs = some (bO 5 [.int a0, .int a1, .int (nI b), .int n, .int p, .int g, .int 0])) (hN3 : (w 3).toInt = (tn (w 3) : Int)) (hN40 : tn (w 3) < 40) : Ct G 4 4 M_X1_sells [.ref (ad 0), .ref (ad (70 + k)), .ref qs] (cH ad w h) (rQ (fun v h' => v = none ∧ ∃ qn, cH ad (upd (upd (upd (upd w (17 + 9 * k + (3 + b)) (w (17 + 9 * k + (3 + b)) - n)) (17 + 9 * k + 6) (w (17 + 9 * k + 6) + n)) (4) (w 4 + n * p)) (9) (w 9 + n * p)) h qn = none ∧ addQ ad (upd (upd (upd (upd w (17 + 9 * k + (3 + b)) (w (17 + 9 * k + (3 + b)) - n)) (17 + 9 * k + 6) (w (17 + 9 * k + 6) + n)) (4) (w 4 + n * p)) (9) (w 9 + n * p)) (cH ad (upd (upd (upd (upd w (17 + 9 * k + (3 + b)) (w (17 + 9 * k + (3 + b)) - n)) (17 + 9 * k + 6) (w (17 + 9 * k + 6) + n)) (4) (w 4 + n * p)) (9) (w 9 + n * p)) h) qs qn h')) := by
  rcases Nat.eq_zero_or_pos (tn (w 3)) with h0 | h0
  · exact sp_X1_sells0 hi k b hk hs hb qs hqF hqs hN3 hN40 h0
  · exact sp_X1_sells1 hi k b hk hs hb qs hqF hqs hN3 hN40 (tn (w 3) - 1) (by omega)
