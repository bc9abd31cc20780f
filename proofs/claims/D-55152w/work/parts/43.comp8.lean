set_option maxRecDepth 100000
theorem upd_id {f : Nat → Int32} {i : Nat} : upd f i (f i) = f := by
  funext q
  by_cases e : q = i
  · subst e
    rw [upd_s]
  · rw [upd_n e]
theorem cF_no {ad : Nat → Nat} {w w' : Nat → Int32} {q : Nat} (h : cF ad w q = none) (e2 : w' 2 = w 2) (e3 : w' 3 = w 3) : cF ad w' q = none := by
  have e : cdom w' = cdom w := by rw [cdom, e2, e3]
  refine fam_none fun k hk hd => ?_
  rw [e] at hd
  exact fam_no h hk hd
theorem cI_e {ad : Nat → Nat} {w w' : Nat → Int32} (h : cI ad w) (e2 : w' 2 = w 2) (e3 : w' 3 = w 3) : cI ad w' := by
  have e : cdom w' = cdom w := by rw [cdom, e2, e3]
  rw [cI, e]
  exact h
theorem i11 {x : Int32} (h0 : 0 ≤ x.toInt) (h7 : x.toInt ≤ 10) : x = 0 ∨ x = 1 ∨ x = 2 ∨ x = 3 ∨ x = 4 ∨ x = 5 ∨ x = 6 ∨ x = 7 ∨ x = 8 ∨ x = 9 ∨ x = 10 := by
  simp only [i32_eq, Int32.reduceToInt]
  omega
/-- the mood of a dog and 1, a night later -/
def mdE (m : Int32) : Int32 := if 5 < m - 1 then m - 1 else if isn (m - 1) 0 4 = true then m + 1 else m
theorem mdE_dg {m : Int32} (h0 : 0 ≤ m.toInt) (h1 : m.toInt ≤ 10) : dgE (if m - 1 < 0 then -15 else m - 1) = if mdE m - 1 < 0 then -15 else mdE m - 1 := by
  rcases i11 h0 h1 with rfl | rfl | rfl | rfl | rfl | rfl | rfl | rfl | rfl | rfl | rfl <;> decide
theorem tmE_c {t : Int32} (h0 : 0 ≤ t.toInt) (h1 : t.toInt ≤ 9) : (if t < 5 then imax 0 (imin 9 (t + 1)) else t) = tmE t := by
  rcases i11 h0 (by omega) with rfl | rfl | rfl | rfl | rfl | rfl | rfl | rfl | rfl | rfl | rfl <;> decide
theorem gPass1_eq {w : Nat → Int32} {k : Nat} (h0 : 0 ≤ (w (53 + 4 * k)).toInt) (h1 : (w (53 + 4 * k)).toInt ≤ 9) : gPass1 w k = upd (upd w (53 + 4 * k + 1) (mdE (w (53 + 4 * k + 1)))) (53 + 4 * k) (tmE (w (53 + 4 * k))) := by
  have key : (if isn (gMd w k) 0 4 = true then upd (if 5 < gMd w k then upd w (53 + 4 * k + 1) (w (53 + 4 * k + 1) - 1) else w) (53 + 4 * k + 1) ((if 5 < gMd w k then upd w (53 + 4 * k + 1) (w (53 + 4 * k + 1) - 1) else w) (53 + 4 * k + 1) + 1) else (if 5 < gMd w k then upd w (53 + 4 * k + 1) (w (53 + 4 * k + 1) - 1) else w)) = upd w (53 + 4 * k + 1) (mdE (w (53 + 4 * k + 1))) := by
    have em : gMd w k = w (53 + 4 * k + 1) - 1 := rfl
    unfold mdE
    rw [← em]
    by_cases a : 5 < gMd w k
    · have b : ¬ isn (gMd w k) 0 4 = true := by
        rw [isn_t]
        rw [Int32.lt_iff_toInt_lt] at a
        have h5 : (5 : Int32).toInt = 5 := rfl
        have h4 : (4 : Int32).toInt = 4 := rfl
        omega
      rw [if_neg b, if_pos a, if_pos a, em]
    · rw [if_neg a, if_neg a]
      by_cases b : isn (gMd w k) 0 4 = true
      · rw [if_pos b, if_pos b]
      · rw [if_neg b, if_neg b, upd_id]
  unfold gPass1
  dsimp only
  rw [key]
  have e0 : gTm (upd w (53 + 4 * k + 1) (mdE (w (53 + 4 * k + 1)))) k = w (53 + 4 * k) := upd_n (by omega)
  show (if gTm (upd w (53 + 4 * k + 1) (mdE (w (53 + 4 * k + 1)))) k < 5 then gCalm (upd w (53 + 4 * k + 1) (mdE (w (53 + 4 * k + 1)))) k 1 else upd w (53 + 4 * k + 1) (mdE (w (53 + 4 * k + 1)))) = _
  unfold gCalm
  rw [e0, ← tmE_c h0 h1]
  by_cases a : w (53 + 4 * k) < 5
  · rw [if_pos a, if_pos a]
  · rw [if_neg a, if_neg a]
    have e1 : upd w (53 + 4 * k + 1) (mdE (w (53 + 4 * k + 1))) (53 + 4 * k) = w (53 + 4 * k) := upd_n (by omega)
    rw [← e1, upd_id]
theorem cu_day {ad : Nat → Nat} {w : Nat → Int32} {h : HP} (hi : cI ad w) (k : Nat) (hk : k < 20) (h0 : 0 ≤ (w (53 + 4 * k)).toInt) (h1 : (w (53 + 4 * k)).toInt ≤ 9) (m0 : 0 ≤ (w (53 + 4 * k + 1)).toInt) (m1 : (w (53 + 4 * k + 1)).toInt ≤ 10) : hu (cH ad w h) (ad (10 + k)) (bO 2 [.int (nI k), .int (tmE (w (53 + 4 * k))), .int (dgE (gDg w k)), .int (w (53 + 4 * k + 2)), .ref (ad (30 + k))]) = cH ad (gPass1 w k) h := by
  have i1 : cI ad (upd w (53 + 4 * k + 1) (mdE (w (53 + 4 * k + 1)))) := cI_u hi (by omega) (by omega)
  have eg : gDg (upd w (53 + 4 * k + 1) (mdE (w (53 + 4 * k + 1)))) k = dgE (gDg w k) := dg_upd (mdE_dg m0 m1)
  rw [gPass1_eq h0 h1, ← cu_h0 i1 k hk, ← cu_h1y (mdE (w (53 + 4 * k + 1))) hi k hk (mdE_dg m0 m1), hu_hu, eg, upd_n (show 53 + 4 * k + 2 ≠ 53 + 4 * k + 1 by omega)]
theorem gPass1_o {w : Nat → Int32} {k i : Nat} (h0 : i ≠ 53 + 4 * k) (h1 : i ≠ 53 + 4 * k + 1) : gPass1 w k i = w i := by
  unfold gPass1 gCalm
  try dsimp only
  (repeat' split) <;> (repeat rw [upd_n (by assumption)]) <;> (try with_reducible rfl)
theorem gPassN_s {w : Nat → Int32} {n : Nat} : gPassN w (n + 1) = gPass1 (gPassN w n) n := rfl
theorem gPassN_o {w : Nat → Int32} {i : Nat} : ∀ n : Nat, i < 53 ∨ 53 + 4 * n ≤ i → gPassN w n i = w i
  | 0, _ => rfl
  | n + 1, h => by
    rw [gPassN_s, gPass1_o (by omega) (by omega)]
    exact gPassN_o n (by omega)
theorem gPass1_u {w : Nat → Int32} {k : Nat} {v : Int32} : gPass1 (upd w 0 v) k = upd (gPass1 w k) 0 v := by
  have em : gMd (upd w 0 v) k = gMd w k := by unfold gMd; rw [upd_n (by omega)]
  have e1 : upd w 0 v (53 + 4 * k + 1) = w (53 + 4 * k + 1) := upd_n (by omega)
  have tm : ∀ u : Nat → Int32, gTm (upd u 0 v) k = gTm u k := fun u => upd_n (by omega)
  have cl : ∀ u : Nat → Int32, gCalm (upd u 0 v) k 1 = upd (gCalm u k 1) 0 v := fun u => by unfold gCalm; rw [tm, upd_c (by omega)]
  have s1 : (if 5 < gMd w k then upd (upd w 0 v) (53 + 4 * k + 1) (w (53 + 4 * k + 1) - 1) else upd w 0 v) = upd (if 5 < gMd w k then upd w (53 + 4 * k + 1) (w (53 + 4 * k + 1) - 1) else w) 0 v := by
    by_cases a : 5 < gMd w k
    · rw [if_pos a, if_pos a, upd_c (by omega)]
    · rw [if_neg a, if_neg a]
  unfold gPass1
  rw [em, e1, s1]
  generalize (if 5 < gMd w k then upd w (53 + 4 * k + 1) (w (53 + 4 * k + 1) - 1) else w) = u
  dsimp only
  by_cases b : isn (gMd w k) 0 4 = true
  · rw [if_pos b, if_pos b, upd_n (show 53 + 4 * k + 1 ≠ 0 by omega), upd_c (show 0 ≠ 53 + 4 * k + 1 by omega), tm, cl]
    split <;> rfl
  · rw [if_neg b, if_neg b, tm, cl]
    split <;> rfl
theorem gPassN_u {w : Nat → Int32} {v : Int32} : ∀ n : Nat, gPassN (upd w 0 v) n = upd (gPassN w n) 0 v
  | 0 => rfl
  | n + 1 => by rw [gPassN_s, gPassN_s, gPassN_u n, gPass1_u]
theorem gDay_eq {w u : Nat → Int32} (hu : u = gPassN (upd w 1 0) 20) : gDay w = upd u 0 (u 0 + 1) := by
  have e0 : u 0 = w 0 := by rw [hu, gPassN_o 20 (by omega), upd_n (by omega)]
  rw [e0, hu, ← gPassN_u]
  unfold gDay
  rw [upd_c (show 0 ≠ 1 by omega)]
set_option maxHeartbeats 4000000 in
set_option maxRecDepth 100000 in
theorem lp_day {G : GG} {h : HP} {ad : Nat → Nat} {w : Nat → Int32} (hi : cI ad w) {q : Nat} (hF : cF ad w q = none) (hq : h q = none) (w0 : Nat → Int32) (hw0 : w = upd w0 1 0) (hr : ∀ m, m < 20 → (0 ≤ (w (53 + 4 * m)).toInt ∧ (w (53 + 4 * m)).toInt ≤ 9) ∧ (0 ≤ (w (53 + 4 * m + 1)).toInt ∧ (w (53 + 4 * m + 1)).toInt ≤ 10))  : ∀ (k i : Nat) (lr : Int32) , i + k = 20 → True → V G 3 M_X1_dayEnds 13 [(1, .ref q), (0, .ref (ad 0))] [] (cH ad (gPassN w i) (hu h q (bIt (nI i) lr 20 (ad 1)))) 0 (rQ (fun v h' => v = some (.int (gDay w0 0)) ∧ ∃ h1, Ext h h1 ∧ h' = cH ad (gDay w0) h1)) := by
  intro k
  induction k with
  | zero =>
    intro i lr  hk9 ha
    obtain rfl : i = 20 := by omega
    generalize hwe : gPassN w 20 = w20
    have g2 : w20 2 = w 2 := by rw [← hwe]; exact gPassN_o 20 (by omega)
    have g3 : w20 3 = w 3 := by rw [← hwe]; exact gPassN_o 20 (by omega)
    have hwi : cI ad w20 := cI_e hi g2 g3
    have hF : cF ad w20 q = none := cF_no hF g2 g3
    rw [hw0] at hwe
    have hgd := gDay_eq hwe.symm
    rw [hgd]
    first | refine r_aload_n dX1_dayEnds_13 rfl ?_ | refine r_aload_nq dX1_dayEnds_13 rfl ?_ | refine r_aload_nN dX1_dayEnds_13 rfl ?_
    refine r_invF dX1_dayEnds_14 (sp_J16_hasNext (it_at hF) (c_1 hwi)) rfl mo_J16_hasNext (Or.inl (it_at hF)) rfl (lkA q517) ⟨q519, q518, q539, q537, q535⟩ ⟨by decide +kernel, by decide +kernel⟩ (lkA q536) (lkA q538) rfl (show _ = some 0 from by decide +kernel) (lkA q85) mp_J16_hasNext (Nat.le_of_ble_eq_true rfl) (Nat.le_of_ble_eq_true rfl) (Nat.le_of_ble_eq_true rfl) (kr_e ?_) kx_e
    refine r_if_eq 39 dX1_dayEnds_19 rfl (fun c19 => ?_) (fun c19 => absurd c19 (by rw [if_pos ((nI_c (n := 20) (x := 20) rfl (by omega)).mpr rfl)]; decide))
    first | refine r_aload_n dX1_dayEnds_39 rfl ?_ | refine r_aload_nq dX1_dayEnds_39 rfl ?_ | refine r_aload_nN dX1_dayEnds_39 rfl ?_
    refine r_dup dX1_dayEnds_40 rfl ?_
    refine r_getfield 1 4 dX1_dayEnds_41 rfl (Nat.le_of_ble_eq_true rfl) (lkA q304) (Or.inl rfl) (Or.inl (c_0 hwi)) (by rfl) ?_
    refine r_iconst (v := 1) dX1_dayEnds_44 rfl ?_
    refine r_iadd dX1_dayEnds_45 ?_
    refine r_put 1 4 dX1_dayEnds_46 rfl (Nat.le_of_ble_eq_true rfl) (lkA q304) (Or.inl rfl) rfl (c_0 hwi) (by dsimp only [List.set]) (Nat.le_of_ble_eq_true rfl) rfl rfl (cu_0 hwi) ?_
    first | refine r_aload_n dX1_dayEnds_49 rfl ?_ | refine r_aload_nq dX1_dayEnds_49 rfl ?_ | refine r_aload_nN dX1_dayEnds_49 rfl ?_
    refine r_getfield 1 4 dX1_dayEnds_50 rfl (Nat.le_of_ble_eq_true rfl) (lkA q304) (Or.inl rfl) (Or.inl (c_0 (cI_u hwi (by omega) (by omega)))) (by rfl) ?_
    exact r_ireturn dX1_dayEnds_53 rfl (by first | rfl | exact bi_nar) ⟨rfl, _, Ext.new hq, rfl⟩
  | succ k ih =>
    intro i lr  hk9 ha
    have hi2 : i < 20 := by omega
    have hix := nIn (show i < 1000 by omega)
    have hcn : (20 : Int32).toInt = ((20 : Nat) : Int) := rfl
    have hwi : cI ad (gPassN w i) := cI_e hi (gPassN_o i (by omega)) (gPassN_o i (by omega))
    have hF : cF ad (gPassN w i) q = none := cF_no hF (gPassN_o i (by omega)) (gPassN_o i (by omega))
    first | refine r_aload_n dX1_dayEnds_13 rfl ?_ | refine r_aload_nq dX1_dayEnds_13 rfl ?_ | refine r_aload_nN dX1_dayEnds_13 rfl ?_
    refine r_invF dX1_dayEnds_14 (sp_J16_hasNext (it_at hF) (c_1 hwi)) rfl mo_J16_hasNext (Or.inl (it_at hF)) rfl (lkA q517) ⟨q519, q518, q539, q537, q535⟩ ⟨by decide +kernel, by decide +kernel⟩ (lkA q536) (lkA q538) rfl (show _ = some 0 from by decide +kernel) (lkA q85) mp_J16_hasNext (Nat.le_of_ble_eq_true rfl) (Nat.le_of_ble_eq_true rfl) (Nat.le_of_ble_eq_true rfl) (kr_e ?_) kx_e
    refine r_if_eq 39 dX1_dayEnds_19 rfl (fun c19 => absurd c19 (by rw [if_neg (fun e => by have := (nI_c (n := 20) (x := 20) rfl (by omega)).mp e; omega)]; decide)) (fun c19 => ?_)
    first | refine r_aload_n dX1_dayEnds_22 rfl ?_ | refine r_aload_nq dX1_dayEnds_22 rfl ?_ | refine r_aload_nN dX1_dayEnds_22 rfl ?_
    refine r_invF dX1_dayEnds_23 (sp_J16_next (it_at hF) (c_1 hwi) (c_2 hwi) hix (by rw [hcn]; omega) (by omega) (by decide) (fHs_at (by omega))) rfl mo_J16_next (Or.inl (it_at hF)) rfl (lkA q551) ⟨q553, q552, q842, q840, q535⟩ ⟨by decide +kernel, by decide +kernel⟩ (lkA q839) (lkA q841) rfl (show _ = some 0 from by decide +kernel) (lkA q85) mp_J16_next (Nat.le_of_ble_eq_true rfl) (Nat.le_of_ble_eq_true rfl) (Nat.le_of_ble_eq_true rfl) (kr_e ?_) kx_e
    rw [it_up hF]
    refine r_castS dX1_dayEnds_28 (Or.inl (c_h hwi i hi2)) rfl (lkA q176) ?_
    first | refine r_astore_n dX1_dayEnds_31 (Nat.le_of_ble_eq_true rfl) ?_ | refine r_astore_nq dX1_dayEnds_31 (Nat.le_of_ble_eq_true rfl) ?_ | refine r_astore_nN dX1_dayEnds_31 (Nat.le_of_ble_eq_true rfl) ?_
    first | refine r_aload_n dX1_dayEnds_32 rfl ?_ | refine r_aload_nq dX1_dayEnds_32 rfl ?_ | refine r_aload_nN dX1_dayEnds_32 rfl ?_
    refine r_invV dX1_dayEnds_33 (sp_X2_dayEnds (c_h hwi i hi2)) rfl mo_X2_dayEnds (Or.inl (c_h hwi i hi2)) rfl (lkA q1421) (lkA q1422) (lkA q1423) rfl (lkA q71) mp_X2_dayEnds (Nat.le_of_ble_eq_true rfl) (Nat.le_of_ble_eq_true rfl) (Nat.le_of_ble_eq_true rfl) (kr_e ?_) kx_e
    rw [cu_day hwi i hi2 (by rw [gPassN_o i (by omega)]; exact (hr i hi2).1.1) (by rw [gPassN_o i (by omega)]; exact (hr i hi2).1.2) (by rw [gPassN_o i (by omega)]; exact (hr i hi2).2.1) (by rw [gPassN_o i (by omega)]; exact (hr i hi2).2.2)]
    refine r_goto 13 dX1_dayEnds_36 rfl ?_
    refine V_loc (L' := [(1, .ref q), (0, .ref (ad 0))]) ⟨rfl, rfl, trivial⟩ ?_
    rw [← nI_succ]
    rw [← gPassN_s]
    exact ih (i + 1) _ (by omega) trivial

set_option maxHeartbeats 4000000 in
set_option maxRecDepth 100000 in
theorem sp_X1_dayEnds {G : GG} {h : HP} {ad : Nat → Nat} {w : Nat → Int32} (hi : cI ad w) (hr : ∀ m, m < 20 → (0 ≤ (w (53 + 4 * m)).toInt ∧ (w (53 + 4 * m)).toInt ≤ 9) ∧ (0 ≤ (w (53 + 4 * m + 1)).toInt ∧ (w (53 + 4 * m + 1)).toInt ≤ 10))  : Ct G 3 5 M_X1_dayEnds [.ref (ad 0)] (cH ad w h) (rQ (fun v h' => v = some (.int (gDay w 0)) ∧ ∃ h1, Ext h h1 ∧ h' = cH ad (gDay w) h1)) := by
  refine ct_intro my_X1_dayEnds (Nat.le_of_ble_eq_true rfl) ?_
  first | refine r_aload_n dX1_dayEnds_0 rfl ?_ | refine r_aload_nq dX1_dayEnds_0 rfl ?_ | refine r_aload_nN dX1_dayEnds_0 rfl ?_
  refine r_iconst (v := 0) dX1_dayEnds_1 rfl ?_
  refine r_put 1 5 dX1_dayEnds_2 rfl (Nat.le_of_ble_eq_true rfl) (lkA q306) (Or.inl rfl) rfl (c_0 hi) (by dsimp only [List.set]) (Nat.le_of_ble_eq_true rfl) rfl rfl (cu_1 hi) ?_
  have hi2 : cI ad (upd w 1 0) := cI_u hi (by omega) (by omega)
  first | refine r_aload_n dX1_dayEnds_5 rfl ?_ | refine r_aload_nq dX1_dayEnds_5 rfl ?_ | refine r_aload_nN dX1_dayEnds_5 rfl ?_
  refine r_getfield 1 0 dX1_dayEnds_6 rfl (Nat.le_of_ble_eq_true rfl) (lkA q296) (Or.inl rfl) (Or.inl (c_0 hi2)) (by rfl) ?_
  refine r_invV dX1_dayEnds_9 (sp_J2_iterator (c_1 hi2)) rfl mo_J2_iterator (Or.inl (c_1 hi2)) rfl (lkA q491) (lkA q492) (lkA q493) rfl (lkA q68) mp_J2_iterator (Nat.le_of_ble_eq_true rfl) (Nat.le_of_ble_eq_true rfl) (Nat.le_of_ble_eq_true rfl) (kr_r (fun v9 h9 p9 => ?_)) kx_r
  obtain ⟨q, rfl, hq, rfl⟩ := p9
  rw [cH_new hq]
  first | refine r_astore_n dX1_dayEnds_12 (Nat.le_of_ble_eq_true rfl) ?_ | refine r_astore_nq dX1_dayEnds_12 (Nat.le_of_ble_eq_true rfl) ?_ | refine r_astore_nN dX1_dayEnds_12 (Nat.le_of_ble_eq_true rfl) ?_
  refine V_loc (L' := [(1, .ref q), (0, .ref (ad 0))]) ⟨rfl, rfl, trivial⟩ ?_
  exact lp_day hi2 (it_F hq) (ov_none hq).2 w rfl (fun m hm => by rw [upd_n (by omega), upd_n (by omega)]; exact hr m hm) 20 0 (-1) (by omega) trivial

theorem gDay_2 {w : Nat → Int32} : gDay w 2 = w 2 := by
  unfold gDay
  rw [gPassN_o 20 (by omega), upd_n (by omega), upd_n (by omega)]
theorem gDay_3 {w : Nat → Int32} : gDay w 3 = w 3 := by
  unfold gDay
  rw [gPassN_o 20 (by omega), upd_n (by omega), upd_n (by omega)]
theorem day_oQ {ad : Nat → Nat} {w : Nat → Int32} {h : HP} (hi : cI ad w) : ∀ (u : Oc) (h' : HP), rQ (fun v h' => v = some (.int (gDay w 0)) ∧ ∃ h1, Ext h h1 ∧ h' = cH ad (gDay w) h1) u h' → oQ ad w h (oDay w) u h' := by
  have g2 := gDay_2 (w := w)
  have g3 := gDay_3 (w := w)
  unfold oDay
  generalize gDay w = u at g2 g3 ⊢
  rintro (v | q) h' hq
  · obtain ⟨rfl, h1, hx, rfl⟩ := hq
    exact ⟨rfl, cP_same hi g2 g3 hx⟩
  · exact hq.elim
def oBal2 (w : Nat → Int32) (N : Nat) : Bool := decide (w 5 = w 14 + w 15 + w 16 + gCases w N + w 8 + gSum w 6 N - gSum w 7 N) && decide (w 4 = 50 + w 9 - w 10 - w 11)
set_option maxHeartbeats 4000000 in
set_option maxRecDepth 100000 in
theorem sp_X1_isBalanced {G : GG} {h : HP} {ad : Nat → Nat} {w : Nat → Int32} (hi : cI ad w) (N : Nat) (hN : (w 2).toInt = (N : Int)) (hN4 : N ≤ 4)  : Ct G 4 15 M_X1_isBalanced [.ref (ad 0)] (cH ad w h) (rQ (fun v h' => v = some (.int (bi (oBal2 w N))) ∧ ∃ h1, Ext h h1 ∧ h' = cH ad w h1)) := by
  refine ct_intro my_X1_isBalanced (Nat.le_of_ble_eq_true rfl) ?_
  first | refine r_aload_n dX1_isBalanced_0 rfl ?_ | refine r_aload_nq dX1_isBalanced_0 rfl ?_ | refine r_aload_nN dX1_isBalanced_0 rfl ?_
  refine r_getfield 1 10 dX1_isBalanced_1 rfl (Nat.le_of_ble_eq_true rfl) (lkA q316) (Or.inl rfl) (Or.inl (by first | exact c_0 hi | exact c_1 hi | exact c_2 hi | exact c_3 hi | exact c_4 hi | exact c_5 hi | exact c_6 hi)) (by rfl) ?_
  first | refine r_aload_n dX1_isBalanced_4 rfl ?_ | refine r_aload_nq dX1_isBalanced_4 rfl ?_ | refine r_aload_nN dX1_isBalanced_4 rfl ?_
  refine r_invV dX1_isBalanced_5 (sp_X1_inDepot hi) rfl mo_X1_inDepot (Or.inl (c_0 hi)) rfl (lkA q1833) (lkA q1805) (lkA q1806) rfl (lkA q65) mp_X1_inDepot (Nat.le_of_ble_eq_true rfl) (Nat.le_of_ble_eq_true rfl) (Nat.le_of_ble_eq_true rfl) (kr_e ?_) kx_e
  first | refine r_aload_n dX1_isBalanced_8 rfl ?_ | refine r_aload_nq dX1_isBalanced_8 rfl ?_ | refine r_aload_nN dX1_isBalanced_8 rfl ?_
  refine r_invV dX1_isBalanced_9 (sp_X1_inCases hi N hN hN4) rfl mo_X1_inCases (Or.inl (c_0 hi)) rfl (lkA q1834) (lkA q1809) (lkA q1810) rfl (lkA q65) mp_X1_inCases (Nat.le_of_ble_eq_true rfl) (Nat.le_of_ble_eq_true rfl) (Nat.le_of_ble_eq_true rfl) (kr_r (fun v9 h9 p9 => ?_)) kx_r
  obtain ⟨rfl, hinCases, xinCases, rfl⟩ := p9
  refine r_iadd dX1_isBalanced_12 ?_
  first | refine r_aload_n dX1_isBalanced_13 rfl ?_ | refine r_aload_nq dX1_isBalanced_13 rfl ?_ | refine r_aload_nN dX1_isBalanced_13 rfl ?_
  refine r_getfield 1 11 dX1_isBalanced_14 rfl (Nat.le_of_ble_eq_true rfl) (lkA q318) (Or.inl rfl) (Or.inl (by first | exact c_0 hi | exact c_1 hi | exact c_2 hi | exact c_3 hi | exact c_4 hi | exact c_5 hi | exact c_6 hi)) (by rfl) ?_
  refine r_iadd dX1_isBalanced_17 ?_
  first | refine r_aload_n dX1_isBalanced_18 rfl ?_ | refine r_aload_nq dX1_isBalanced_18 rfl ?_ | refine r_aload_nN dX1_isBalanced_18 rfl ?_
  refine r_invV dX1_isBalanced_19 (sp_X1_sold hi N hN hN4) rfl mo_X1_sold (Or.inl (c_0 hi)) rfl (lkA q1835) (lkA q1817) (lkA q1818) rfl (lkA q65) mp_X1_sold (Nat.le_of_ble_eq_true rfl) (Nat.le_of_ble_eq_true rfl) (Nat.le_of_ble_eq_true rfl) (kr_r (fun v9 h9 p9 => ?_)) kx_r
  obtain ⟨rfl, hsold, xsold, rfl⟩ := p9
  refine r_iadd dX1_isBalanced_22 ?_
  first | refine r_aload_n dX1_isBalanced_23 rfl ?_ | refine r_aload_nq dX1_isBalanced_23 rfl ?_ | refine r_aload_nN dX1_isBalanced_23 rfl ?_
  refine r_invV dX1_isBalanced_24 (sp_X1_back hi N hN hN4) rfl mo_X1_back (Or.inl (c_0 hi)) rfl (lkA q1836) (lkA q1821) (lkA q1822) rfl (lkA q65) mp_X1_back (Nat.le_of_ble_eq_true rfl) (Nat.le_of_ble_eq_true rfl) (Nat.le_of_ble_eq_true rfl) (kr_r (fun v9 h9 p9 => ?_)) kx_r
  obtain ⟨rfl, hback, xback, rfl⟩ := p9
  refine r_isub dX1_isBalanced_27 ?_
  refine r_icmp_ne 35 dX1_isBalanced_28 rfl (fun c28 => ?_) (fun c28 => ?_)
  · refine r_iconst (v := 0) dX1_isBalanced_35 rfl ?_
    refine r_istore_n dX1_isBalanced_36 (Nat.le_of_ble_eq_true rfl) ?_
    refine r_iload_n dX1_isBalanced_37 rfl ?_
    refine r_if_eq 69 dX1_isBalanced_38 rfl (fun c38 => ?_) (fun c38 => absurd c38 (by decide))
    refine r_iconst (v := 0) dX1_isBalanced_69 rfl ?_
    exact r_ireturn dX1_isBalanced_70 rfl (by first | rfl | exact bi_nar) ⟨by unfold oBal2; rw [decide_eq_false c28]; rfl, _, (xinCases.tr (xsold.tr xback)), rfl⟩
  · refine r_iconst (v := 1) dX1_isBalanced_31 rfl ?_
    refine r_goto 36 dX1_isBalanced_32 rfl ?_
    refine r_istore_n dX1_isBalanced_36 (Nat.le_of_ble_eq_true rfl) ?_
    refine r_iload_n dX1_isBalanced_37 rfl ?_
    refine r_if_eq 69 dX1_isBalanced_38 rfl (fun c38 => absurd c38 (by decide)) (fun c38 => ?_)
    first | refine r_aload_n dX1_isBalanced_41 rfl ?_ | refine r_aload_nq dX1_isBalanced_41 rfl ?_ | refine r_aload_nN dX1_isBalanced_41 rfl ?_
    refine r_getfield 1 6 dX1_isBalanced_42 rfl (Nat.le_of_ble_eq_true rfl) (lkA q308) (Or.inl rfl) (Or.inl (by first | exact c_0 hi | exact c_1 hi | exact c_2 hi | exact c_3 hi | exact c_4 hi | exact c_5 hi | exact c_6 hi)) (by rfl) ?_
    refine r_bipush (v := 50) dX1_isBalanced_45 rfl ?_
    first | refine r_aload_n dX1_isBalanced_47 rfl ?_ | refine r_aload_nq dX1_isBalanced_47 rfl ?_ | refine r_aload_nN dX1_isBalanced_47 rfl ?_
    refine r_getfield 1 7 dX1_isBalanced_48 rfl (Nat.le_of_ble_eq_true rfl) (lkA q310) (Or.inl rfl) (Or.inl (by first | exact c_0 hi | exact c_1 hi | exact c_2 hi | exact c_3 hi | exact c_4 hi | exact c_5 hi | exact c_6 hi)) (by rfl) ?_
    refine r_iadd dX1_isBalanced_51 ?_
    first | refine r_aload_n dX1_isBalanced_52 rfl ?_ | refine r_aload_nq dX1_isBalanced_52 rfl ?_ | refine r_aload_nN dX1_isBalanced_52 rfl ?_
    refine r_getfield 1 8 dX1_isBalanced_53 rfl (Nat.le_of_ble_eq_true rfl) (lkA q312) (Or.inl rfl) (Or.inl (by first | exact c_0 hi | exact c_1 hi | exact c_2 hi | exact c_3 hi | exact c_4 hi | exact c_5 hi | exact c_6 hi)) (by rfl) ?_
    refine r_isub dX1_isBalanced_56 ?_
    first | refine r_aload_n dX1_isBalanced_57 rfl ?_ | refine r_aload_nq dX1_isBalanced_57 rfl ?_ | refine r_aload_nN dX1_isBalanced_57 rfl ?_
    refine r_getfield 1 9 dX1_isBalanced_58 rfl (Nat.le_of_ble_eq_true rfl) (lkA q314) (Or.inl rfl) (Or.inl (by first | exact c_0 hi | exact c_1 hi | exact c_2 hi | exact c_3 hi | exact c_4 hi | exact c_5 hi | exact c_6 hi)) (by rfl) ?_
    refine r_isub dX1_isBalanced_61 ?_
    refine r_icmp_ne 69 dX1_isBalanced_62 rfl (fun c62 => ?_) (fun c62 => ?_)
    · refine r_iconst (v := 0) dX1_isBalanced_69 rfl ?_
      exact r_ireturn dX1_isBalanced_70 rfl (by first | rfl | exact bi_nar) ⟨by unfold oBal2; rw [decide_eq_false c62, Bool.and_false]; rfl, _, (xinCases.tr (xsold.tr xback)), rfl⟩
    · refine r_iconst (v := 1) dX1_isBalanced_65 rfl ?_
      refine r_goto 70 dX1_isBalanced_66 rfl ?_
      exact r_ireturn dX1_isBalanced_70 rfl (by first | rfl | exact bi_nar) ⟨by unfold oBal2; rw [decide_eq_true c28, decide_eq_true c62]; rfl, _, (xinCases.tr (xsold.tr xback)), rfl⟩

set_option maxHeartbeats 4000000 in
set_option maxRecDepth 100000 in
theorem sp_X1_takesNumbers {G : GG} {h : HP} {a b x1 x2 x3 x4 y1 y2 y3 y4 : Nat} {a0 a1 a2 a3 a4 a5 a6 a7 a8 a9 b0 b1 b2 b3 b4 b5 b6 b7 b8 b9 : Int32} (ha : h a = some (bO 1 [.ref x1, .ref x2, .ref x3, .ref x4, .int a0, .int a1, .int a2, .int a3, .int a4, .int a5, .int a6, .int a7, .int a8, .int a9])) (hb : h b = some (bO 1 [.ref y1, .ref y2, .ref y3, .ref y4, .int b0, .int b1, .int b2, .int b3, .int b4, .int b5, .int b6, .int b7, .int b8, .int b9])) (hab : b ≠ a) : Ct G 0 0 M_X1_takesNumbers [.ref a, .ref b] h (eQ none (hu h a (bO 1 [.ref x1, .ref x2, .ref x3, .ref x4, .int b0, .int b1, .int b2, .int b3, .int b4, .int b5, .int b6, .int b7, .int b8, .int b9]))) := by
  refine ct_intro my_X1_takesNumbers (Nat.le_of_ble_eq_true rfl) ?_
  have hB : ∀ y, hu h a y b = some (bO 1 [.ref y1, .ref y2, .ref y3, .ref y4, .int b0, .int b1, .int b2, .int b3, .int b4, .int b5, .int b6, .int b7, .int b8, .int b9]) := fun y => (hu_n hab).trans hb
  first | refine r_aload_n dX1_takesNumbers_0 rfl ?_ | refine r_aload_nq dX1_takesNumbers_0 rfl ?_ | refine r_aload_nN dX1_takesNumbers_0 rfl ?_
  first | refine r_aload_n dX1_takesNumbers_1 rfl ?_ | refine r_aload_nq dX1_takesNumbers_1 rfl ?_ | refine r_aload_nN dX1_takesNumbers_1 rfl ?_
  refine r_getfield 1 4 dX1_takesNumbers_2 rfl (Nat.le_of_ble_eq_true rfl) (lkA q304) (Or.inl rfl) (Or.inl hb) (by rfl) ?_
  refine r_put 1 4 dX1_takesNumbers_5 rfl (Nat.le_of_ble_eq_true rfl) (lkA q304) (Or.inl rfl) rfl (by repeat' first | assumption | exact hu_s | refine hu_o (by assumption) ?_ | refine (hu_n (by first | assumption | exact Ne.symm (by assumption) | exact ne_o (by assumption) (by assumption) | exact Ne.symm (ne_o (by assumption) (by assumption)))).trans ?_) (by dsimp only [List.set]) (Nat.le_of_ble_eq_true rfl) rfl rfl (by first | exact hu_hu | exact rfl) ?_
  first | refine r_aload_n dX1_takesNumbers_8 rfl ?_ | refine r_aload_nq dX1_takesNumbers_8 rfl ?_ | refine r_aload_nN dX1_takesNumbers_8 rfl ?_
  first | refine r_aload_n dX1_takesNumbers_9 rfl ?_ | refine r_aload_nq dX1_takesNumbers_9 rfl ?_ | refine r_aload_nN dX1_takesNumbers_9 rfl ?_
  refine r_getfield 1 5 dX1_takesNumbers_10 rfl (Nat.le_of_ble_eq_true rfl) (lkA q306) (Or.inl rfl) (Or.inl (hB _)) (by rfl) ?_
  refine r_put 1 5 dX1_takesNumbers_13 rfl (Nat.le_of_ble_eq_true rfl) (lkA q306) (Or.inl rfl) rfl (by repeat' first | assumption | exact hu_s | refine hu_o (by assumption) ?_ | refine (hu_n (by first | assumption | exact Ne.symm (by assumption) | exact ne_o (by assumption) (by assumption) | exact Ne.symm (ne_o (by assumption) (by assumption)))).trans ?_) (by dsimp only [List.set]) (Nat.le_of_ble_eq_true rfl) rfl rfl (by first | exact hu_hu | exact rfl) ?_
  first | refine r_aload_n dX1_takesNumbers_16 rfl ?_ | refine r_aload_nq dX1_takesNumbers_16 rfl ?_ | refine r_aload_nN dX1_takesNumbers_16 rfl ?_
  first | refine r_aload_n dX1_takesNumbers_17 rfl ?_ | refine r_aload_nq dX1_takesNumbers_17 rfl ?_ | refine r_aload_nN dX1_takesNumbers_17 rfl ?_
  refine r_getfield 1 6 dX1_takesNumbers_18 rfl (Nat.le_of_ble_eq_true rfl) (lkA q308) (Or.inl rfl) (Or.inl (hB _)) (by rfl) ?_
  refine r_put 1 6 dX1_takesNumbers_21 rfl (Nat.le_of_ble_eq_true rfl) (lkA q308) (Or.inl rfl) rfl (by repeat' first | assumption | exact hu_s | refine hu_o (by assumption) ?_ | refine (hu_n (by first | assumption | exact Ne.symm (by assumption) | exact ne_o (by assumption) (by assumption) | exact Ne.symm (ne_o (by assumption) (by assumption)))).trans ?_) (by dsimp only [List.set]) (Nat.le_of_ble_eq_true rfl) rfl rfl (by first | exact hu_hu | exact rfl) ?_
  first | refine r_aload_n dX1_takesNumbers_24 rfl ?_ | refine r_aload_nq dX1_takesNumbers_24 rfl ?_ | refine r_aload_nN dX1_takesNumbers_24 rfl ?_
  first | refine r_aload_n dX1_takesNumbers_25 rfl ?_ | refine r_aload_nq dX1_takesNumbers_25 rfl ?_ | refine r_aload_nN dX1_takesNumbers_25 rfl ?_
  refine r_getfield 1 7 dX1_takesNumbers_26 rfl (Nat.le_of_ble_eq_true rfl) (lkA q310) (Or.inl rfl) (Or.inl (hB _)) (by rfl) ?_
  refine r_put 1 7 dX1_takesNumbers_29 rfl (Nat.le_of_ble_eq_true rfl) (lkA q310) (Or.inl rfl) rfl (by repeat' first | assumption | exact hu_s | refine hu_o (by assumption) ?_ | refine (hu_n (by first | assumption | exact Ne.symm (by assumption) | exact ne_o (by assumption) (by assumption) | exact Ne.symm (ne_o (by assumption) (by assumption)))).trans ?_) (by dsimp only [List.set]) (Nat.le_of_ble_eq_true rfl) rfl rfl (by first | exact hu_hu | exact rfl) ?_
  first | refine r_aload_n dX1_takesNumbers_32 rfl ?_ | refine r_aload_nq dX1_takesNumbers_32 rfl ?_ | refine r_aload_nN dX1_takesNumbers_32 rfl ?_
  first | refine r_aload_n dX1_takesNumbers_33 rfl ?_ | refine r_aload_nq dX1_takesNumbers_33 rfl ?_ | refine r_aload_nN dX1_takesNumbers_33 rfl ?_
  refine r_getfield 1 8 dX1_takesNumbers_34 rfl (Nat.le_of_ble_eq_true rfl) (lkA q312) (Or.inl rfl) (Or.inl (hB _)) (by rfl) ?_
  refine r_put 1 8 dX1_takesNumbers_37 rfl (Nat.le_of_ble_eq_true rfl) (lkA q312) (Or.inl rfl) rfl (by repeat' first | assumption | exact hu_s | refine hu_o (by assumption) ?_ | refine (hu_n (by first | assumption | exact Ne.symm (by assumption) | exact ne_o (by assumption) (by assumption) | exact Ne.symm (ne_o (by assumption) (by assumption)))).trans ?_) (by dsimp only [List.set]) (Nat.le_of_ble_eq_true rfl) rfl rfl (by first | exact hu_hu | exact rfl) ?_
  first | refine r_aload_n dX1_takesNumbers_40 rfl ?_ | refine r_aload_nq dX1_takesNumbers_40 rfl ?_ | refine r_aload_nN dX1_takesNumbers_40 rfl ?_
  first | refine r_aload_n dX1_takesNumbers_41 rfl ?_ | refine r_aload_nq dX1_takesNumbers_41 rfl ?_ | refine r_aload_nN dX1_takesNumbers_41 rfl ?_
  refine r_getfield 1 9 dX1_takesNumbers_42 rfl (Nat.le_of_ble_eq_true rfl) (lkA q314) (Or.inl rfl) (Or.inl (hB _)) (by rfl) ?_
  refine r_put 1 9 dX1_takesNumbers_45 rfl (Nat.le_of_ble_eq_true rfl) (lkA q314) (Or.inl rfl) rfl (by repeat' first | assumption | exact hu_s | refine hu_o (by assumption) ?_ | refine (hu_n (by first | assumption | exact Ne.symm (by assumption) | exact ne_o (by assumption) (by assumption) | exact Ne.symm (ne_o (by assumption) (by assumption)))).trans ?_) (by dsimp only [List.set]) (Nat.le_of_ble_eq_true rfl) rfl rfl (by first | exact hu_hu | exact rfl) ?_
  first | refine r_aload_n dX1_takesNumbers_48 rfl ?_ | refine r_aload_nq dX1_takesNumbers_48 rfl ?_ | refine r_aload_nN dX1_takesNumbers_48 rfl ?_
  first | refine r_aload_n dX1_takesNumbers_49 rfl ?_ | refine r_aload_nq dX1_takesNumbers_49 rfl ?_ | refine r_aload_nN dX1_takesNumbers_49 rfl ?_
  refine r_getfield 1 10 dX1_takesNumbers_50 rfl (Nat.le_of_ble_eq_true rfl) (lkA q316) (Or.inl rfl) (Or.inl (hB _)) (by rfl) ?_
  refine r_put 1 10 dX1_takesNumbers_53 rfl (Nat.le_of_ble_eq_true rfl) (lkA q316) (Or.inl rfl) rfl (by repeat' first | assumption | exact hu_s | refine hu_o (by assumption) ?_ | refine (hu_n (by first | assumption | exact Ne.symm (by assumption) | exact ne_o (by assumption) (by assumption) | exact Ne.symm (ne_o (by assumption) (by assumption)))).trans ?_) (by dsimp only [List.set]) (Nat.le_of_ble_eq_true rfl) rfl rfl (by first | exact hu_hu | exact rfl) ?_
  first | refine r_aload_n dX1_takesNumbers_56 rfl ?_ | refine r_aload_nq dX1_takesNumbers_56 rfl ?_ | refine r_aload_nN dX1_takesNumbers_56 rfl ?_
  first | refine r_aload_n dX1_takesNumbers_57 rfl ?_ | refine r_aload_nq dX1_takesNumbers_57 rfl ?_ | refine r_aload_nN dX1_takesNumbers_57 rfl ?_
  refine r_getfield 1 11 dX1_takesNumbers_58 rfl (Nat.le_of_ble_eq_true rfl) (lkA q318) (Or.inl rfl) (Or.inl (hB _)) (by rfl) ?_
  refine r_put 1 11 dX1_takesNumbers_61 rfl (Nat.le_of_ble_eq_true rfl) (lkA q318) (Or.inl rfl) rfl (by repeat' first | assumption | exact hu_s | refine hu_o (by assumption) ?_ | refine (hu_n (by first | assumption | exact Ne.symm (by assumption) | exact ne_o (by assumption) (by assumption) | exact Ne.symm (ne_o (by assumption) (by assumption)))).trans ?_) (by dsimp only [List.set]) (Nat.le_of_ble_eq_true rfl) rfl rfl (by first | exact hu_hu | exact rfl) ?_
  first | refine r_aload_n dX1_takesNumbers_64 rfl ?_ | refine r_aload_nq dX1_takesNumbers_64 rfl ?_ | refine r_aload_nN dX1_takesNumbers_64 rfl ?_
  first | refine r_aload_n dX1_takesNumbers_65 rfl ?_ | refine r_aload_nq dX1_takesNumbers_65 rfl ?_ | refine r_aload_nN dX1_takesNumbers_65 rfl ?_
  refine r_getfield 1 12 dX1_takesNumbers_66 rfl (Nat.le_of_ble_eq_true rfl) (lkA q320) (Or.inl rfl) (Or.inl (hB _)) (by rfl) ?_
  refine r_put 1 12 dX1_takesNumbers_69 rfl (Nat.le_of_ble_eq_true rfl) (lkA q320) (Or.inl rfl) rfl (by repeat' first | assumption | exact hu_s | refine hu_o (by assumption) ?_ | refine (hu_n (by first | assumption | exact Ne.symm (by assumption) | exact ne_o (by assumption) (by assumption) | exact Ne.symm (ne_o (by assumption) (by assumption)))).trans ?_) (by dsimp only [List.set]) (Nat.le_of_ble_eq_true rfl) rfl rfl (by first | exact hu_hu | exact rfl) ?_
  first | refine r_aload_n dX1_takesNumbers_72 rfl ?_ | refine r_aload_nq dX1_takesNumbers_72 rfl ?_ | refine r_aload_nN dX1_takesNumbers_72 rfl ?_
  first | refine r_aload_n dX1_takesNumbers_73 rfl ?_ | refine r_aload_nq dX1_takesNumbers_73 rfl ?_ | refine r_aload_nN dX1_takesNumbers_73 rfl ?_
  refine r_getfield 1 13 dX1_takesNumbers_74 rfl (Nat.le_of_ble_eq_true rfl) (lkA q322) (Or.inl rfl) (Or.inl (hB _)) (by rfl) ?_
  refine r_put 1 13 dX1_takesNumbers_77 rfl (Nat.le_of_ble_eq_true rfl) (lkA q322) (Or.inl rfl) rfl (by repeat' first | assumption | exact hu_s | refine hu_o (by assumption) ?_ | refine (hu_n (by first | assumption | exact Ne.symm (by assumption) | exact ne_o (by assumption) (by assumption) | exact Ne.symm (ne_o (by assumption) (by assumption)))).trans ?_) (by dsimp only [List.set]) (Nat.le_of_ble_eq_true rfl) rfl rfl (by first | exact hu_hu | exact rfl) ?_
  exact r_return dX1_takesNumbers_80 rfl (by first | exact ⟨rfl, rfl⟩ | rfl)

