set_option maxRecDepth 100000
theorem it_F {ad : Nat → Nat} {w : Nat → Int32} {h : HP} {q : Nat} (hq : cH ad w h q = none) : cF ad w q = none := (ov_none hq).1
theorem it_at {ad : Nat → Nat} {w : Nat → Int32} {h : HP} {q : Nat} {X : Bd} (hF : cF ad w q = none) : cH ad w (hu h q X) q = some X := (ov_n hF).trans hu_s
theorem it_up {ad : Nat → Nat} {w : Nat → Int32} {h : HP} {q : Nat} {X Y : Bd} (hF : cF ad w q = none) : hu (cH ad w (hu h q X)) q Y = cH ad w (hu h q Y) := by
  rw [hu_ovn hF, hu_hu]
theorem fHs_at {ad : Nat → Nat} {n j : Nat} (h : j < n) : fHs ad n j = some (ad (10 + j)) := if_pos h
theorem fSs_at {ad : Nat → Nat} {n j : Nat} (h : j < n) : fSs ad n j = some (ad (70 + j)) := if_pos h
abbrev bIt (i lr mc : Int32) (a : Nat) : Bd := bO 16 [.int i, .int lr, .int mc, .ref a]
theorem nI_c {i n : Nat} {x : Int32} (hx : x.toInt = (n : Int)) (hi : i < 1000) : nI i = x ↔ i = n := by
  rw [i32_eq, nIn hi, hx]
  omega
theorem dg_15 {w : Nat → Int32} {h : Nat} : gDg w h = -15 ↔ ¬ 0 ≤ gMd w h := by
  unfold gDg
  by_cases e : gMd w h < 0
  · rw [if_pos e]
    exact ⟨fun _ => Int32.not_le.mpr e, fun _ => rfl⟩
  · rw [if_neg e]
    have h0 := Int32.not_lt.mp e
    refine ⟨fun e2 => ?_, fun e2 => absurd h0 e2⟩
    rw [e2] at h0
    exact absurd h0 (by decide)
set_option maxHeartbeats 4000000 in
set_option maxRecDepth 100000 in
theorem lp_dogs {G : GG} {h : HP} {ad : Nat → Nat} {w : Nat → Int32} (hi : cI ad w) {q : Nat} (hF : cF ad w q = none) (hq : h q = none) (rr : Int32) (hrr : rr = gDogs w 20) : ∀ (k i : Nat) (lr a : Int32), i + k = 20 → a = gDogs w i → V G 3 M_X1_dogs 10 [(2, .ref q), (1, .int (a)), (0, .ref (ad 0))] [] (cH ad w (hu h q (bIt (nI i) lr 20 (ad 1)))) 0 (rQ (fun v h' => v = some (.int rr) ∧ ∃ h1, Ext h h1 ∧ h' = cH ad w h1)) := by
  intro k
  induction k with
  | zero =>
    intro i lr a hk ha
    obtain rfl : i = 20 := by omega
    first | refine r_aload_n dX1_dogs_10 rfl ?_ | refine r_aload_nq dX1_dogs_10 rfl ?_ | refine r_aload_nN dX1_dogs_10 rfl ?_
    refine r_invF dX1_dogs_11 (sp_J16_hasNext (it_at hF) (c_1 hi)) rfl mo_J16_hasNext (Or.inl (it_at hF)) rfl (lkA q517) ⟨q519, q518, q539, q537, q535⟩ ⟨by decide +kernel, by decide +kernel⟩ (lkA q536) (lkA q538) rfl (show _ = some 0 from by decide +kernel) (lkA q85) mp_J16_hasNext (Nat.le_of_ble_eq_true rfl) (Nat.le_of_ble_eq_true rfl) (Nat.le_of_ble_eq_true rfl) (kr_e ?_) kx_e
    refine r_if_eq 49 dX1_dogs_16 rfl (fun c16 => ?_) (fun c16 => absurd c16 (by rw [if_pos ((nI_c (n := 20) (x := 20) rfl (by omega)).mpr rfl)]; decide))
    refine r_iload_n dX1_dogs_49 rfl ?_
    exact r_ireturn dX1_dogs_50 rfl (by first | rfl | exact bi_nar) ⟨by rw [ha, hrr], _, Ext.new hq, rfl⟩
  | succ k ih =>
    intro i lr a hk ha
    have hi2 : i < 20 := by omega
    have hix := nIn (show i < 1000 by omega)
    have hcn : (20 : Int32).toInt = ((20 : Nat) : Int) := rfl
    first | refine r_aload_n dX1_dogs_10 rfl ?_ | refine r_aload_nq dX1_dogs_10 rfl ?_ | refine r_aload_nN dX1_dogs_10 rfl ?_
    refine r_invF dX1_dogs_11 (sp_J16_hasNext (it_at hF) (c_1 hi)) rfl mo_J16_hasNext (Or.inl (it_at hF)) rfl (lkA q517) ⟨q519, q518, q539, q537, q535⟩ ⟨by decide +kernel, by decide +kernel⟩ (lkA q536) (lkA q538) rfl (show _ = some 0 from by decide +kernel) (lkA q85) mp_J16_hasNext (Nat.le_of_ble_eq_true rfl) (Nat.le_of_ble_eq_true rfl) (Nat.le_of_ble_eq_true rfl) (kr_e ?_) kx_e
    refine r_if_eq 49 dX1_dogs_16 rfl (fun c16 => absurd c16 (by rw [if_neg (fun e => by have := (nI_c (n := 20) (x := 20) rfl (by omega)).mp e; omega)]; decide)) (fun c16 => ?_)
    first | refine r_aload_n dX1_dogs_19 rfl ?_ | refine r_aload_nq dX1_dogs_19 rfl ?_ | refine r_aload_nN dX1_dogs_19 rfl ?_
    refine r_invF dX1_dogs_20 (sp_J16_next (it_at hF) (c_1 hi) (c_2 hi) hix (by rw [hcn]; omega) (by omega) (by decide) (fHs_at (by omega))) rfl mo_J16_next (Or.inl (it_at hF)) rfl (lkA q551) ⟨q553, q552, q842, q840, q535⟩ ⟨by decide +kernel, by decide +kernel⟩ (lkA q839) (lkA q841) rfl (show _ = some 0 from by decide +kernel) (lkA q85) mp_J16_next (Nat.le_of_ble_eq_true rfl) (Nat.le_of_ble_eq_true rfl) (Nat.le_of_ble_eq_true rfl) (kr_e ?_) kx_e
    rw [it_up hF]
    refine r_castS dX1_dogs_25 (Or.inl (c_h hi i hi2)) rfl (lkA q176) ?_
    first | refine r_astore_n dX1_dogs_28 (Nat.le_of_ble_eq_true rfl) ?_ | refine r_astore_nq dX1_dogs_28 (Nat.le_of_ble_eq_true rfl) ?_ | refine r_astore_nN dX1_dogs_28 (Nat.le_of_ble_eq_true rfl) ?_
    refine r_iload_n dX1_dogs_29 rfl ?_
    first | refine r_aload_n dX1_dogs_30 rfl ?_ | refine r_aload_nq dX1_dogs_30 rfl ?_ | refine r_aload_nN dX1_dogs_30 rfl ?_
    refine r_getfieldN 2 2 dX1_dogs_31 rfl (Nat.le_of_ble_eq_true rfl) (lkT q212 rfl) (Or.inl rfl) (Or.inl (c_h hi i hi2)) (by rfl) ?_
    refine r_bipush (v := (-15)) dX1_dogs_34 rfl ?_
    refine r_icmp_ne 43 dX1_dogs_36 rfl (fun c36 => ?_) (fun c36 => ?_)
    · refine r_iconst (v := 1) dX1_dogs_43 rfl ?_
      refine r_iadd dX1_dogs_44 ?_
      refine r_istore_n dX1_dogs_45 (Nat.le_of_ble_eq_true rfl) ?_
      refine r_goto 10 dX1_dogs_46 rfl ?_
      refine V_loc (L' := [(2, .ref q), (1, .int (a + 1)), (0, .ref (ad 0))]) ⟨rfl, rfl, rfl, trivial⟩ ?_
      rw [← nI_succ]
      exact ih (i + 1) _ _ (by omega) ((by rw [ha]; show _ = (if 0 ≤ gMd w i then _ else _); rw [if_pos (Decidable.not_not.mp (fun e => c36 (dg_15.mpr e)))]))
    · refine r_iconst (v := 0) dX1_dogs_39 rfl ?_
      refine r_goto 44 dX1_dogs_40 rfl ?_
      refine r_iadd dX1_dogs_44 ?_
      refine r_istore_n dX1_dogs_45 (Nat.le_of_ble_eq_true rfl) ?_
      refine r_goto 10 dX1_dogs_46 rfl ?_
      refine V_loc (L' := [(2, .ref q), (1, .int (a + 0)), (0, .ref (ad 0))]) ⟨rfl, rfl, rfl, trivial⟩ ?_
      rw [← nI_succ]
      exact ih (i + 1) _ _ (by omega) ((by rw [ha]; show _ = (if 0 ≤ gMd w i then _ else _); rw [if_neg (dg_15.mp c36), Int32.add_zero]))

set_option maxHeartbeats 4000000 in
set_option maxRecDepth 100000 in
theorem sp_X1_dogs {G : GG} {h : HP} {ad : Nat → Nat} {w : Nat → Int32} (hi : cI ad w)  : Ct G 3 5 M_X1_dogs [.ref (ad 0)] (cH ad w h) (rQ (fun v h' => v = some (.int (gDogs w 20)) ∧ ∃ h1, Ext h h1 ∧ h' = cH ad w h1)) := by
  refine ct_intro my_X1_dogs (Nat.le_of_ble_eq_true rfl) ?_
  refine r_iconst (v := 0) dX1_dogs_0 rfl ?_
  refine r_istore_n dX1_dogs_1 (Nat.le_of_ble_eq_true rfl) ?_
  first | refine r_aload_n dX1_dogs_2 rfl ?_ | refine r_aload_nq dX1_dogs_2 rfl ?_ | refine r_aload_nN dX1_dogs_2 rfl ?_
  refine r_getfield 1 0 dX1_dogs_3 rfl (Nat.le_of_ble_eq_true rfl) (lkA q296) (Or.inl rfl) (Or.inl (by first | exact c_0 hi | exact c_1 hi | exact c_2 hi | exact c_3 hi | exact c_4 hi | exact c_5 hi | exact c_6 hi)) (by rfl) ?_
  refine r_invV dX1_dogs_6 (sp_J2_iterator (c_1 hi)) rfl mo_J2_iterator (Or.inl (c_1 hi)) rfl (lkA q491) (lkA q492) (lkA q493) rfl (lkA q68) mp_J2_iterator (Nat.le_of_ble_eq_true rfl) (Nat.le_of_ble_eq_true rfl) (Nat.le_of_ble_eq_true rfl) (kr_r (fun v9 h9 p9 => ?_)) kx_r
  obtain ⟨q, rfl, hq, rfl⟩ := p9
  rw [cH_new hq]
  first | refine r_astore_n dX1_dogs_9 (Nat.le_of_ble_eq_true rfl) ?_ | refine r_astore_nq dX1_dogs_9 (Nat.le_of_ble_eq_true rfl) ?_ | refine r_astore_nN dX1_dogs_9 (Nat.le_of_ble_eq_true rfl) ?_
  refine V_loc (L' := [(2, .ref q), (1, .int (0)), (0, .ref (ad 0))]) ⟨rfl, rfl, rfl, trivial⟩ ?_
  exact lp_dogs hi (it_F hq) (ov_none hq).2 _ rfl 20 0 (-1) 0 (by omega) rfl

/-- the tempers of the first n houses -/
def gTemps (w : Nat → Int32) : Nat → Int32
  | 0 => 0
  | n + 1 => gTemps w n + w (53 + 4 * n)
/-- the k-th number of the first n sellers, summed -/
def gSum (w : Nat → Int32) (k : Nat) : Nat → Int32
  | 0 => 0
  | n + 1 => gSum w k n + w (17 + 9 * n + k)
theorem gCase_3 {w : Nat → Int32} {s : Nat} {a : Int32} : gCase w s 3 a = a + (fBr w s 0 + fBr w s 1 + fBr w s 2) := by
  show a + gSl w s (3 + 0) + gSl w s (3 + 1) + gSl w s (3 + 2) = _
  rw [show fBr w s 0 = gSl w s (3 + 0) from rfl, show fBr w s 1 = gSl w s (3 + 1) from rfl, show fBr w s 2 = gSl w s (3 + 2) from rfl, ← Int32.add_assoc, ← Int32.add_assoc]
set_option maxHeartbeats 4000000 in
set_option maxRecDepth 100000 in
theorem lp_tempers {G : GG} {h : HP} {ad : Nat → Nat} {w : Nat → Int32} (hi : cI ad w) {q : Nat} (hF : cF ad w q = none) (hq : h q = none) (rr : Int32) (hrr : rr = gTemps w 20) : ∀ (k i : Nat) (lr a : Int32), i + k = 20 → a = gTemps w i → V G 3 M_X1_tempers 10 [(2, .ref q), (1, .int (a)), (0, .ref (ad 0))] [] (cH ad w (hu h q (bIt (nI i) lr 20 (ad 1)))) 0 (rQ (fun v h' => v = some (.int rr) ∧ ∃ h1, Ext h h1 ∧ h' = cH ad w h1)) := by
  intro k
  induction k with
  | zero =>
    intro i lr a hk ha
    obtain rfl : i = 20 := by omega
    first | refine r_aload_n dX1_tempers_10 rfl ?_ | refine r_aload_nq dX1_tempers_10 rfl ?_ | refine r_aload_nN dX1_tempers_10 rfl ?_
    refine r_invF dX1_tempers_11 (sp_J16_hasNext (it_at hF) (c_1 hi)) rfl mo_J16_hasNext (Or.inl (it_at hF)) rfl (lkA q517) ⟨q519, q518, q539, q537, q535⟩ ⟨by decide +kernel, by decide +kernel⟩ (lkA q536) (lkA q538) rfl (show _ = some 0 from by decide +kernel) (lkA q85) mp_J16_hasNext (Nat.le_of_ble_eq_true rfl) (Nat.le_of_ble_eq_true rfl) (Nat.le_of_ble_eq_true rfl) (kr_e ?_) kx_e
    refine r_if_eq 39 dX1_tempers_16 rfl (fun c16 => ?_) (fun c16 => absurd c16 (by rw [if_pos ((nI_c (n := 20) (x := 20) rfl (by omega)).mpr rfl)]; decide))
    refine r_iload_n dX1_tempers_39 rfl ?_
    exact r_ireturn dX1_tempers_40 rfl (by first | rfl | exact bi_nar) ⟨by rw [ha, hrr], _, Ext.new hq, rfl⟩
  | succ k ih =>
    intro i lr a hk ha
    have hi2 : i < 20 := by omega
    have hix := nIn (show i < 1000 by omega)
    have hcn : (20 : Int32).toInt = ((20 : Nat) : Int) := rfl
    first | refine r_aload_n dX1_tempers_10 rfl ?_ | refine r_aload_nq dX1_tempers_10 rfl ?_ | refine r_aload_nN dX1_tempers_10 rfl ?_
    refine r_invF dX1_tempers_11 (sp_J16_hasNext (it_at hF) (c_1 hi)) rfl mo_J16_hasNext (Or.inl (it_at hF)) rfl (lkA q517) ⟨q519, q518, q539, q537, q535⟩ ⟨by decide +kernel, by decide +kernel⟩ (lkA q536) (lkA q538) rfl (show _ = some 0 from by decide +kernel) (lkA q85) mp_J16_hasNext (Nat.le_of_ble_eq_true rfl) (Nat.le_of_ble_eq_true rfl) (Nat.le_of_ble_eq_true rfl) (kr_e ?_) kx_e
    refine r_if_eq 39 dX1_tempers_16 rfl (fun c16 => absurd c16 (by rw [if_neg (fun e => by have := (nI_c (n := 20) (x := 20) rfl (by omega)).mp e; omega)]; decide)) (fun c16 => ?_)
    first | refine r_aload_n dX1_tempers_19 rfl ?_ | refine r_aload_nq dX1_tempers_19 rfl ?_ | refine r_aload_nN dX1_tempers_19 rfl ?_
    refine r_invF dX1_tempers_20 (sp_J16_next (it_at hF) (c_1 hi) (c_2 hi) hix (by rw [hcn]; omega) (by omega) (by decide) (fHs_at (by omega))) rfl mo_J16_next (Or.inl (it_at hF)) rfl (lkA q551) ⟨q553, q552, q842, q840, q535⟩ ⟨by decide +kernel, by decide +kernel⟩ (lkA q839) (lkA q841) rfl (show _ = some 0 from by decide +kernel) (lkA q85) mp_J16_next (Nat.le_of_ble_eq_true rfl) (Nat.le_of_ble_eq_true rfl) (Nat.le_of_ble_eq_true rfl) (kr_e ?_) kx_e
    rw [it_up hF]
    refine r_castS dX1_tempers_25 (Or.inl (c_h hi i hi2)) rfl (lkA q176) ?_
    first | refine r_astore_n dX1_tempers_28 (Nat.le_of_ble_eq_true rfl) ?_ | refine r_astore_nq dX1_tempers_28 (Nat.le_of_ble_eq_true rfl) ?_ | refine r_astore_nN dX1_tempers_28 (Nat.le_of_ble_eq_true rfl) ?_
    refine r_iload_n dX1_tempers_29 rfl ?_
    first | refine r_aload_n dX1_tempers_30 rfl ?_ | refine r_aload_nq dX1_tempers_30 rfl ?_ | refine r_aload_nN dX1_tempers_30 rfl ?_
    refine r_getfieldN 2 1 dX1_tempers_31 rfl (Nat.le_of_ble_eq_true rfl) (lkT q210 rfl) (Or.inl rfl) (Or.inl (c_h hi i hi2)) (by rfl) ?_
    refine r_iadd dX1_tempers_34 ?_
    refine r_istore_n dX1_tempers_35 (Nat.le_of_ble_eq_true rfl) ?_
    refine r_goto 10 dX1_tempers_36 rfl ?_
    refine V_loc (L' := [(2, .ref q), (1, .int (a + w (53 + 4 * i))), (0, .ref (ad 0))]) ⟨rfl, rfl, rfl, trivial⟩ ?_
    rw [← nI_succ]
    exact ih (i + 1) _ _ (by omega) ((by rw [ha]; rfl))

set_option maxHeartbeats 4000000 in
set_option maxRecDepth 100000 in
theorem sp_X1_tempers {G : GG} {h : HP} {ad : Nat → Nat} {w : Nat → Int32} (hi : cI ad w)  : Ct G 3 5 M_X1_tempers [.ref (ad 0)] (cH ad w h) (rQ (fun v h' => v = some (.int (gTemps w 20)) ∧ ∃ h1, Ext h h1 ∧ h' = cH ad w h1)) := by
  refine ct_intro my_X1_tempers (Nat.le_of_ble_eq_true rfl) ?_
  refine r_iconst (v := 0) dX1_tempers_0 rfl ?_
  refine r_istore_n dX1_tempers_1 (Nat.le_of_ble_eq_true rfl) ?_
  first | refine r_aload_n dX1_tempers_2 rfl ?_ | refine r_aload_nq dX1_tempers_2 rfl ?_ | refine r_aload_nN dX1_tempers_2 rfl ?_
  refine r_getfield 1 0 dX1_tempers_3 rfl (Nat.le_of_ble_eq_true rfl) (lkA q296) (Or.inl rfl) (Or.inl (by first | exact c_0 hi | exact c_1 hi | exact c_2 hi | exact c_3 hi | exact c_4 hi | exact c_5 hi | exact c_6 hi)) (by rfl) ?_
  refine r_invV dX1_tempers_6 (sp_J2_iterator (c_1 hi)) rfl mo_J2_iterator (Or.inl (c_1 hi)) rfl (lkA q491) (lkA q492) (lkA q493) rfl (lkA q68) mp_J2_iterator (Nat.le_of_ble_eq_true rfl) (Nat.le_of_ble_eq_true rfl) (Nat.le_of_ble_eq_true rfl) (kr_r (fun v9 h9 p9 => ?_)) kx_r
  obtain ⟨q, rfl, hq, rfl⟩ := p9
  rw [cH_new hq]
  first | refine r_astore_n dX1_tempers_9 (Nat.le_of_ble_eq_true rfl) ?_ | refine r_astore_nq dX1_tempers_9 (Nat.le_of_ble_eq_true rfl) ?_ | refine r_astore_nN dX1_tempers_9 (Nat.le_of_ble_eq_true rfl) ?_
  refine V_loc (L' := [(2, .ref q), (1, .int (0)), (0, .ref (ad 0))]) ⟨rfl, rfl, rfl, trivial⟩ ?_
  exact lp_tempers hi (it_F hq) (ov_none hq).2 _ rfl 20 0 (-1) 0 (by omega) rfl

set_option maxHeartbeats 4000000 in
set_option maxRecDepth 100000 in
theorem lp_sold {G : GG} {h : HP} {ad : Nat → Nat} {w : Nat → Int32} (hi : cI ad w) {q : Nat} (hF : cF ad w q = none) (hq : h q = none) (N : Nat) (hN : (w 2).toInt = (N : Int)) (hN4 : N ≤ 4) (tnN : tn (w 2) = N) (rr : Int32) (hrr : rr = gSum w 6 N) : ∀ (k i : Nat) (lr a : Int32), i + k = N → a = gSum w 6 i → V G 3 M_X1_sold 10 [(2, .ref q), (1, .int (a)), (0, .ref (ad 0))] [] (cH ad w (hu h q (bIt (nI i) lr (w 2) (ad 3)))) 0 (rQ (fun v h' => v = some (.int rr) ∧ ∃ h1, Ext h h1 ∧ h' = cH ad w h1)) := by
  intro k
  induction k with
  | zero =>
    intro i lr a hk ha
    obtain rfl : i = N := by omega
    first | refine r_aload_n dX1_sold_10 rfl ?_ | refine r_aload_nq dX1_sold_10 rfl ?_ | refine r_aload_nN dX1_sold_10 rfl ?_
    refine r_invF dX1_sold_11 (sp_J16_hasNext (it_at hF) (c_3 hi)) rfl mo_J16_hasNext (Or.inl (it_at hF)) rfl (lkA q517) ⟨q519, q518, q539, q537, q535⟩ ⟨by decide +kernel, by decide +kernel⟩ (lkA q536) (lkA q538) rfl (show _ = some 0 from by decide +kernel) (lkA q85) mp_J16_hasNext (Nat.le_of_ble_eq_true rfl) (Nat.le_of_ble_eq_true rfl) (Nat.le_of_ble_eq_true rfl) (kr_e ?_) kx_e
    refine r_if_eq 39 dX1_sold_16 rfl (fun c16 => ?_) (fun c16 => absurd c16 (by rw [if_pos ((nI_c (n := _) (x := (w 2)) hN (by omega)).mpr rfl)]; decide))
    refine r_iload_n dX1_sold_39 rfl ?_
    exact r_ireturn dX1_sold_40 rfl (by first | rfl | exact bi_nar) ⟨by rw [ha, hrr], _, Ext.new hq, rfl⟩
  | succ k ih =>
    intro i lr a hk ha
    have hi2 : i < N := by omega
    have hix := nIn (show i < 1000 by omega)
    have hcn : ((w 2) : Int32).toInt = ((N : Nat) : Int) := hN
    first | refine r_aload_n dX1_sold_10 rfl ?_ | refine r_aload_nq dX1_sold_10 rfl ?_ | refine r_aload_nN dX1_sold_10 rfl ?_
    refine r_invF dX1_sold_11 (sp_J16_hasNext (it_at hF) (c_3 hi)) rfl mo_J16_hasNext (Or.inl (it_at hF)) rfl (lkA q517) ⟨q519, q518, q539, q537, q535⟩ ⟨by decide +kernel, by decide +kernel⟩ (lkA q536) (lkA q538) rfl (show _ = some 0 from by decide +kernel) (lkA q85) mp_J16_hasNext (Nat.le_of_ble_eq_true rfl) (Nat.le_of_ble_eq_true rfl) (Nat.le_of_ble_eq_true rfl) (kr_e ?_) kx_e
    refine r_if_eq 39 dX1_sold_16 rfl (fun c16 => absurd c16 (by rw [if_neg (fun e => by have := (nI_c (n := N) (x := (w 2)) hN (by omega)).mp e; omega)]; decide)) (fun c16 => ?_)
    first | refine r_aload_n dX1_sold_19 rfl ?_ | refine r_aload_nq dX1_sold_19 rfl ?_ | refine r_aload_nN dX1_sold_19 rfl ?_
    refine r_invF dX1_sold_20 (sp_J16_next (it_at hF) (c_3 hi) (c_4 hi) hix (by rw [hcn]; omega) (by omega) (by decide) (fSs_at (by rw [tnN]; omega))) rfl mo_J16_next (Or.inl (it_at hF)) rfl (lkA q551) ⟨q553, q552, q842, q840, q535⟩ ⟨by decide +kernel, by decide +kernel⟩ (lkA q839) (lkA q841) rfl (show _ = some 0 from by decide +kernel) (lkA q85) mp_J16_next (Nat.le_of_ble_eq_true rfl) (Nat.le_of_ble_eq_true rfl) (Nat.le_of_ble_eq_true rfl) (kr_e ?_) kx_e
    rw [it_up hF]
    refine r_castS dX1_sold_25 (Or.inl (c_s hi i (by omega) (by rw [tnN]; exact hi2))) rfl (lkA q862) ?_
    first | refine r_astore_n dX1_sold_28 (Nat.le_of_ble_eq_true rfl) ?_ | refine r_astore_nq dX1_sold_28 (Nat.le_of_ble_eq_true rfl) ?_ | refine r_astore_nN dX1_sold_28 (Nat.le_of_ble_eq_true rfl) ?_
    refine r_iload_n dX1_sold_29 rfl ?_
    first | refine r_aload_n dX1_sold_30 rfl ?_ | refine r_aload_nq dX1_sold_30 rfl ?_ | refine r_aload_nN dX1_sold_30 rfl ?_
    refine r_getfieldN 4 4 dX1_sold_31 rfl (Nat.le_of_ble_eq_true rfl) (lkT q882 rfl) (Or.inl rfl) (Or.inl (c_s hi i (by omega) (by rw [tnN]; exact hi2))) (by rfl) ?_
    refine r_iadd dX1_sold_34 ?_
    refine r_istore_n dX1_sold_35 (Nat.le_of_ble_eq_true rfl) ?_
    refine r_goto 10 dX1_sold_36 rfl ?_
    refine V_loc (L' := [(2, .ref q), (1, .int (a + w (17 + 9 * i + 6))), (0, .ref (ad 0))]) ⟨rfl, rfl, rfl, trivial⟩ ?_
    rw [← nI_succ]
    exact ih (i + 1) _ _ (by omega) ((by rw [ha]; rfl))

set_option maxHeartbeats 4000000 in
set_option maxRecDepth 100000 in
theorem sp_X1_sold {G : GG} {h : HP} {ad : Nat → Nat} {w : Nat → Int32} (hi : cI ad w) (N : Nat) (hN : (w 2).toInt = (N : Int)) (hN4 : N ≤ 4)  : Ct G 3 5 M_X1_sold [.ref (ad 0)] (cH ad w h) (rQ (fun v h' => v = some (.int (gSum w 6 N)) ∧ ∃ h1, Ext h h1 ∧ h' = cH ad w h1)) := by
  refine ct_intro my_X1_sold (Nat.le_of_ble_eq_true rfl) ?_
  refine r_iconst (v := 0) dX1_sold_0 rfl ?_
  refine r_istore_n dX1_sold_1 (Nat.le_of_ble_eq_true rfl) ?_
  first | refine r_aload_n dX1_sold_2 rfl ?_ | refine r_aload_nq dX1_sold_2 rfl ?_ | refine r_aload_nN dX1_sold_2 rfl ?_
  refine r_getfield 1 1 dX1_sold_3 rfl (Nat.le_of_ble_eq_true rfl) (lkA q298) (Or.inl rfl) (Or.inl (by first | exact c_0 hi | exact c_1 hi | exact c_2 hi | exact c_3 hi | exact c_4 hi | exact c_5 hi | exact c_6 hi)) (by rfl) ?_
  refine r_invV dX1_sold_6 (sp_J2_iterator (c_3 hi)) rfl mo_J2_iterator (Or.inl (c_3 hi)) rfl (lkA q491) (lkA q492) (lkA q493) rfl (lkA q68) mp_J2_iterator (Nat.le_of_ble_eq_true rfl) (Nat.le_of_ble_eq_true rfl) (Nat.le_of_ble_eq_true rfl) (kr_r (fun v9 h9 p9 => ?_)) kx_r
  obtain ⟨q, rfl, hq, rfl⟩ := p9
  rw [cH_new hq]
  first | refine r_astore_n dX1_sold_9 (Nat.le_of_ble_eq_true rfl) ?_ | refine r_astore_nq dX1_sold_9 (Nat.le_of_ble_eq_true rfl) ?_ | refine r_astore_nN dX1_sold_9 (Nat.le_of_ble_eq_true rfl) ?_
  refine V_loc (L' := [(2, .ref q), (1, .int (0)), (0, .ref (ad 0))]) ⟨rfl, rfl, rfl, trivial⟩ ?_
  exact lp_sold hi (it_F hq) (ov_none hq).2 N hN hN4 (by unfold tn; omega) _ rfl N 0 (-1) 0 (by omega) rfl

set_option maxHeartbeats 4000000 in
set_option maxRecDepth 100000 in
theorem lp_back {G : GG} {h : HP} {ad : Nat → Nat} {w : Nat → Int32} (hi : cI ad w) {q : Nat} (hF : cF ad w q = none) (hq : h q = none) (N : Nat) (hN : (w 2).toInt = (N : Int)) (hN4 : N ≤ 4) (tnN : tn (w 2) = N) (rr : Int32) (hrr : rr = gSum w 7 N) : ∀ (k i : Nat) (lr a : Int32), i + k = N → a = gSum w 7 i → V G 3 M_X1_back 10 [(2, .ref q), (1, .int (a)), (0, .ref (ad 0))] [] (cH ad w (hu h q (bIt (nI i) lr (w 2) (ad 3)))) 0 (rQ (fun v h' => v = some (.int rr) ∧ ∃ h1, Ext h h1 ∧ h' = cH ad w h1)) := by
  intro k
  induction k with
  | zero =>
    intro i lr a hk ha
    obtain rfl : i = N := by omega
    first | refine r_aload_n dX1_back_10 rfl ?_ | refine r_aload_nq dX1_back_10 rfl ?_ | refine r_aload_nN dX1_back_10 rfl ?_
    refine r_invF dX1_back_11 (sp_J16_hasNext (it_at hF) (c_3 hi)) rfl mo_J16_hasNext (Or.inl (it_at hF)) rfl (lkA q517) ⟨q519, q518, q539, q537, q535⟩ ⟨by decide +kernel, by decide +kernel⟩ (lkA q536) (lkA q538) rfl (show _ = some 0 from by decide +kernel) (lkA q85) mp_J16_hasNext (Nat.le_of_ble_eq_true rfl) (Nat.le_of_ble_eq_true rfl) (Nat.le_of_ble_eq_true rfl) (kr_e ?_) kx_e
    refine r_if_eq 39 dX1_back_16 rfl (fun c16 => ?_) (fun c16 => absurd c16 (by rw [if_pos ((nI_c (n := _) (x := (w 2)) hN (by omega)).mpr rfl)]; decide))
    refine r_iload_n dX1_back_39 rfl ?_
    exact r_ireturn dX1_back_40 rfl (by first | rfl | exact bi_nar) ⟨by rw [ha, hrr], _, Ext.new hq, rfl⟩
  | succ k ih =>
    intro i lr a hk ha
    have hi2 : i < N := by omega
    have hix := nIn (show i < 1000 by omega)
    have hcn : ((w 2) : Int32).toInt = ((N : Nat) : Int) := hN
    first | refine r_aload_n dX1_back_10 rfl ?_ | refine r_aload_nq dX1_back_10 rfl ?_ | refine r_aload_nN dX1_back_10 rfl ?_
    refine r_invF dX1_back_11 (sp_J16_hasNext (it_at hF) (c_3 hi)) rfl mo_J16_hasNext (Or.inl (it_at hF)) rfl (lkA q517) ⟨q519, q518, q539, q537, q535⟩ ⟨by decide +kernel, by decide +kernel⟩ (lkA q536) (lkA q538) rfl (show _ = some 0 from by decide +kernel) (lkA q85) mp_J16_hasNext (Nat.le_of_ble_eq_true rfl) (Nat.le_of_ble_eq_true rfl) (Nat.le_of_ble_eq_true rfl) (kr_e ?_) kx_e
    refine r_if_eq 39 dX1_back_16 rfl (fun c16 => absurd c16 (by rw [if_neg (fun e => by have := (nI_c (n := N) (x := (w 2)) hN (by omega)).mp e; omega)]; decide)) (fun c16 => ?_)
    first | refine r_aload_n dX1_back_19 rfl ?_ | refine r_aload_nq dX1_back_19 rfl ?_ | refine r_aload_nN dX1_back_19 rfl ?_
    refine r_invF dX1_back_20 (sp_J16_next (it_at hF) (c_3 hi) (c_4 hi) hix (by rw [hcn]; omega) (by omega) (by decide) (fSs_at (by rw [tnN]; omega))) rfl mo_J16_next (Or.inl (it_at hF)) rfl (lkA q551) ⟨q553, q552, q842, q840, q535⟩ ⟨by decide +kernel, by decide +kernel⟩ (lkA q839) (lkA q841) rfl (show _ = some 0 from by decide +kernel) (lkA q85) mp_J16_next (Nat.le_of_ble_eq_true rfl) (Nat.le_of_ble_eq_true rfl) (Nat.le_of_ble_eq_true rfl) (kr_e ?_) kx_e
    rw [it_up hF]
    refine r_castS dX1_back_25 (Or.inl (c_s hi i (by omega) (by rw [tnN]; exact hi2))) rfl (lkA q862) ?_
    first | refine r_astore_n dX1_back_28 (Nat.le_of_ble_eq_true rfl) ?_ | refine r_astore_nq dX1_back_28 (Nat.le_of_ble_eq_true rfl) ?_ | refine r_astore_nN dX1_back_28 (Nat.le_of_ble_eq_true rfl) ?_
    refine r_iload_n dX1_back_29 rfl ?_
    first | refine r_aload_n dX1_back_30 rfl ?_ | refine r_aload_nq dX1_back_30 rfl ?_ | refine r_aload_nN dX1_back_30 rfl ?_
    refine r_getfieldN 4 5 dX1_back_31 rfl (Nat.le_of_ble_eq_true rfl) (lkT q884 rfl) (Or.inl rfl) (Or.inl (c_s hi i (by omega) (by rw [tnN]; exact hi2))) (by rfl) ?_
    refine r_iadd dX1_back_34 ?_
    refine r_istore_n dX1_back_35 (Nat.le_of_ble_eq_true rfl) ?_
    refine r_goto 10 dX1_back_36 rfl ?_
    refine V_loc (L' := [(2, .ref q), (1, .int (a + w (17 + 9 * i + 7))), (0, .ref (ad 0))]) ⟨rfl, rfl, rfl, trivial⟩ ?_
    rw [← nI_succ]
    exact ih (i + 1) _ _ (by omega) ((by rw [ha]; rfl))

set_option maxHeartbeats 4000000 in
set_option maxRecDepth 100000 in
theorem sp_X1_back {G : GG} {h : HP} {ad : Nat → Nat} {w : Nat → Int32} (hi : cI ad w) (N : Nat) (hN : (w 2).toInt = (N : Int)) (hN4 : N ≤ 4)  : Ct G 3 5 M_X1_back [.ref (ad 0)] (cH ad w h) (rQ (fun v h' => v = some (.int (gSum w 7 N)) ∧ ∃ h1, Ext h h1 ∧ h' = cH ad w h1)) := by
  refine ct_intro my_X1_back (Nat.le_of_ble_eq_true rfl) ?_
  refine r_iconst (v := 0) dX1_back_0 rfl ?_
  refine r_istore_n dX1_back_1 (Nat.le_of_ble_eq_true rfl) ?_
  first | refine r_aload_n dX1_back_2 rfl ?_ | refine r_aload_nq dX1_back_2 rfl ?_ | refine r_aload_nN dX1_back_2 rfl ?_
  refine r_getfield 1 1 dX1_back_3 rfl (Nat.le_of_ble_eq_true rfl) (lkA q298) (Or.inl rfl) (Or.inl (by first | exact c_0 hi | exact c_1 hi | exact c_2 hi | exact c_3 hi | exact c_4 hi | exact c_5 hi | exact c_6 hi)) (by rfl) ?_
  refine r_invV dX1_back_6 (sp_J2_iterator (c_3 hi)) rfl mo_J2_iterator (Or.inl (c_3 hi)) rfl (lkA q491) (lkA q492) (lkA q493) rfl (lkA q68) mp_J2_iterator (Nat.le_of_ble_eq_true rfl) (Nat.le_of_ble_eq_true rfl) (Nat.le_of_ble_eq_true rfl) (kr_r (fun v9 h9 p9 => ?_)) kx_r
  obtain ⟨q, rfl, hq, rfl⟩ := p9
  rw [cH_new hq]
  first | refine r_astore_n dX1_back_9 (Nat.le_of_ble_eq_true rfl) ?_ | refine r_astore_nq dX1_back_9 (Nat.le_of_ble_eq_true rfl) ?_ | refine r_astore_nN dX1_back_9 (Nat.le_of_ble_eq_true rfl) ?_
  refine V_loc (L' := [(2, .ref q), (1, .int (0)), (0, .ref (ad 0))]) ⟨rfl, rfl, rfl, trivial⟩ ?_
  exact lp_back hi (it_F hq) (ov_none hq).2 N hN hN4 (by unfold tn; omega) _ rfl N 0 (-1) 0 (by omega) rfl

set_option maxHeartbeats 4000000 in
set_option maxRecDepth 100000 in
theorem lp_inCases {G : GG} {h : HP} {ad : Nat → Nat} {w : Nat → Int32} (hi : cI ad w) {q : Nat} (hF : cF ad w q = none) (hq : h q = none) (N : Nat) (hN : (w 2).toInt = (N : Int)) (hN4 : N ≤ 4) (tnN : tn (w 2) = N) (rr : Int32) (hrr : rr = gCases w N) : ∀ (k i : Nat) (lr a : Int32), i + k = N → a = gCases w i → V G 3 M_X1_inCases 10 [(2, .ref q), (1, .int (a)), (0, .ref (ad 0))] [] (cH ad w (hu h q (bIt (nI i) lr (w 2) (ad 3)))) 0 (rQ (fun v h' => v = some (.int rr) ∧ ∃ h1, Ext h h1 ∧ h' = cH ad w h1)) := by
  intro k
  induction k with
  | zero =>
    intro i lr a hk ha
    obtain rfl : i = N := by omega
    first | refine r_aload_n dX1_inCases_10 rfl ?_ | refine r_aload_nq dX1_inCases_10 rfl ?_ | refine r_aload_nN dX1_inCases_10 rfl ?_
    refine r_invF dX1_inCases_11 (sp_J16_hasNext (it_at hF) (c_3 hi)) rfl mo_J16_hasNext (Or.inl (it_at hF)) rfl (lkA q517) ⟨q519, q518, q539, q537, q535⟩ ⟨by decide +kernel, by decide +kernel⟩ (lkA q536) (lkA q538) rfl (show _ = some 0 from by decide +kernel) (lkA q85) mp_J16_hasNext (Nat.le_of_ble_eq_true rfl) (Nat.le_of_ble_eq_true rfl) (Nat.le_of_ble_eq_true rfl) (kr_e ?_) kx_e
    refine r_if_eq 39 dX1_inCases_16 rfl (fun c16 => ?_) (fun c16 => absurd c16 (by rw [if_pos ((nI_c (n := _) (x := (w 2)) hN (by omega)).mpr rfl)]; decide))
    refine r_iload_n dX1_inCases_39 rfl ?_
    exact r_ireturn dX1_inCases_40 rfl (by first | rfl | exact bi_nar) ⟨by rw [ha, hrr], _, Ext.new hq, rfl⟩
  | succ k ih =>
    intro i lr a hk ha
    have hi2 : i < N := by omega
    have hix := nIn (show i < 1000 by omega)
    have hcn : ((w 2) : Int32).toInt = ((N : Nat) : Int) := hN
    first | refine r_aload_n dX1_inCases_10 rfl ?_ | refine r_aload_nq dX1_inCases_10 rfl ?_ | refine r_aload_nN dX1_inCases_10 rfl ?_
    refine r_invF dX1_inCases_11 (sp_J16_hasNext (it_at hF) (c_3 hi)) rfl mo_J16_hasNext (Or.inl (it_at hF)) rfl (lkA q517) ⟨q519, q518, q539, q537, q535⟩ ⟨by decide +kernel, by decide +kernel⟩ (lkA q536) (lkA q538) rfl (show _ = some 0 from by decide +kernel) (lkA q85) mp_J16_hasNext (Nat.le_of_ble_eq_true rfl) (Nat.le_of_ble_eq_true rfl) (Nat.le_of_ble_eq_true rfl) (kr_e ?_) kx_e
    refine r_if_eq 39 dX1_inCases_16 rfl (fun c16 => absurd c16 (by rw [if_neg (fun e => by have := (nI_c (n := N) (x := (w 2)) hN (by omega)).mp e; omega)]; decide)) (fun c16 => ?_)
    first | refine r_aload_n dX1_inCases_19 rfl ?_ | refine r_aload_nq dX1_inCases_19 rfl ?_ | refine r_aload_nN dX1_inCases_19 rfl ?_
    refine r_invF dX1_inCases_20 (sp_J16_next (it_at hF) (c_3 hi) (c_4 hi) hix (by rw [hcn]; omega) (by omega) (by decide) (fSs_at (by rw [tnN]; omega))) rfl mo_J16_next (Or.inl (it_at hF)) rfl (lkA q551) ⟨q553, q552, q842, q840, q535⟩ ⟨by decide +kernel, by decide +kernel⟩ (lkA q839) (lkA q841) rfl (show _ = some 0 from by decide +kernel) (lkA q85) mp_J16_next (Nat.le_of_ble_eq_true rfl) (Nat.le_of_ble_eq_true rfl) (Nat.le_of_ble_eq_true rfl) (kr_e ?_) kx_e
    rw [it_up hF]
    refine r_castS dX1_inCases_25 (Or.inl (c_s hi i (by omega) (by rw [tnN]; exact hi2))) rfl (lkA q862) ?_
    first | refine r_astore_n dX1_inCases_28 (Nat.le_of_ble_eq_true rfl) ?_ | refine r_astore_nq dX1_inCases_28 (Nat.le_of_ble_eq_true rfl) ?_ | refine r_astore_nN dX1_inCases_28 (Nat.le_of_ble_eq_true rfl) ?_
    refine r_iload_n dX1_inCases_29 rfl ?_
    first | refine r_aload_n dX1_inCases_30 rfl ?_ | refine r_aload_nq dX1_inCases_30 rfl ?_ | refine r_aload_nN dX1_inCases_30 rfl ?_
    refine r_invV dX1_inCases_31 (sp_X4_all (c_s hi i (by omega) (by rw [tnN]; exact hi2)) (c_r hi i (by omega) (by rw [tnN]; exact hi2))) rfl mo_X4_all (Or.inl (c_s hi i (by omega) (by rw [tnN]; exact hi2))) rfl (lkA q1812) (lkA q1813) (lkA q1814) rfl (lkA q91) mp_X4_all (Nat.le_of_ble_eq_true rfl) (Nat.le_of_ble_eq_true rfl) (Nat.le_of_ble_eq_true rfl) (kr_e ?_) kx_e
    refine r_iadd dX1_inCases_34 ?_
    refine r_istore_n dX1_inCases_35 (Nat.le_of_ble_eq_true rfl) ?_
    refine r_goto 10 dX1_inCases_36 rfl ?_
    refine V_loc (L' := [(2, .ref q), (1, .int (a + (fBr w i 0 + fBr w i 1 + fBr w i 2))), (0, .ref (ad 0))]) ⟨rfl, rfl, rfl, trivial⟩ ?_
    rw [← nI_succ]
    exact ih (i + 1) _ _ (by omega) ((by rw [ha]; exact gCase_3.symm))

set_option maxHeartbeats 4000000 in
set_option maxRecDepth 100000 in
theorem sp_X1_inCases {G : GG} {h : HP} {ad : Nat → Nat} {w : Nat → Int32} (hi : cI ad w) (N : Nat) (hN : (w 2).toInt = (N : Int)) (hN4 : N ≤ 4)  : Ct G 3 5 M_X1_inCases [.ref (ad 0)] (cH ad w h) (rQ (fun v h' => v = some (.int (gCases w N)) ∧ ∃ h1, Ext h h1 ∧ h' = cH ad w h1)) := by
  refine ct_intro my_X1_inCases (Nat.le_of_ble_eq_true rfl) ?_
  refine r_iconst (v := 0) dX1_inCases_0 rfl ?_
  refine r_istore_n dX1_inCases_1 (Nat.le_of_ble_eq_true rfl) ?_
  first | refine r_aload_n dX1_inCases_2 rfl ?_ | refine r_aload_nq dX1_inCases_2 rfl ?_ | refine r_aload_nN dX1_inCases_2 rfl ?_
  refine r_getfield 1 1 dX1_inCases_3 rfl (Nat.le_of_ble_eq_true rfl) (lkA q298) (Or.inl rfl) (Or.inl (by first | exact c_0 hi | exact c_1 hi | exact c_2 hi | exact c_3 hi | exact c_4 hi | exact c_5 hi | exact c_6 hi)) (by rfl) ?_
  refine r_invV dX1_inCases_6 (sp_J2_iterator (c_3 hi)) rfl mo_J2_iterator (Or.inl (c_3 hi)) rfl (lkA q491) (lkA q492) (lkA q493) rfl (lkA q68) mp_J2_iterator (Nat.le_of_ble_eq_true rfl) (Nat.le_of_ble_eq_true rfl) (Nat.le_of_ble_eq_true rfl) (kr_r (fun v9 h9 p9 => ?_)) kx_r
  obtain ⟨q, rfl, hq, rfl⟩ := p9
  rw [cH_new hq]
  first | refine r_astore_n dX1_inCases_9 (Nat.le_of_ble_eq_true rfl) ?_ | refine r_astore_nq dX1_inCases_9 (Nat.le_of_ble_eq_true rfl) ?_ | refine r_astore_nN dX1_inCases_9 (Nat.le_of_ble_eq_true rfl) ?_
  refine V_loc (L' := [(2, .ref q), (1, .int (0)), (0, .ref (ad 0))]) ⟨rfl, rfl, rfl, trivial⟩ ?_
  exact lp_inCases hi (it_F hq) (ov_none hq).2 N hN hN4 (by unfold tn; omega) _ rfl N 0 (-1) 0 (by omega) rfl

