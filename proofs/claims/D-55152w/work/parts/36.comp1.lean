set_option maxRecDepth 100000
/-- what an op of a company that is done leaves: the cells of the new state, the old ones where they were, new ones new; what else was there stands -/
def cP (ad : Nat → Nat) (w : Nat → Int32) (h0 : HP) (w' : Nat → Int32) (h' : HP) : Prop := ∃ (ad' : Nat → Nat) (h1 : HP), cI ad' w' ∧ ad' 0 = ad 0 ∧ (∀ k, k < 160 → cdom w' k = true → (cdom w k = true ∧ ad' k = ad k) ∨ cH ad w h0 (ad' k) = none) ∧ (∀ k, k < 160 → cdom w k = true → cdom w' k = true ∧ ad' k = ad k) ∧ Ext h0 h1 ∧ h' = cH ad' w' h1
theorem cP_same {ad : Nat → Nat} {w w' : Nat → Int32} {h0 h1 : HP} (hi : cI ad w) (e2 : w' 2 = w 2) (e3 : w' 3 = w 3) (hx : Ext h0 h1) : cP ad w h0 w' (cH ad w' h1) := by
  have e : cdom w' = cdom w := by rw [cdom, e2, e3]
  refine ⟨ad, h1, by rw [cI, e]; exact hi, rfl, fun k _ hd => Or.inl ⟨by rw [← e]; exact hd, rfl⟩, fun k _ hd => ⟨by rw [e]; exact hd, rfl⟩, hx, rfl⟩
def oQ (ad : Nat → Nat) (w : Nat → Int32) (h0 : HP) (r : OpR) : Oc → HP → Prop := fun o h' => match r, o with
  | .inr (.inr aw), .inl v => v = some (.int aw.1) ∧ cP ad w h0 aw.2 h'
  | .inr (.inl rd), .inr q => ∃ h1, Ext h0 h1 ∧ cH ad w h0 q = none ∧ h1 q = some (bRef rd.1 rd.2) ∧ h' = cH ad w h1
  | _, _ => False
theorem cH_ext {ad : Nat → Nat} {w : Nat → Int32} {h0 h1 : HP} (hx : Ext h0 h1) : Ext (cH ad w h0) (cH ad w h1) := Ext.ovr hx
theorem cH_new {ad : Nat → Nat} {w : Nat → Int32} {h : HP} {q : Nat} {b : Bd} (hq : cH ad w h q = none) : hu (cH ad w h) q b = cH ad w (hu h q b) := hu_ovn (ov_none hq).1
theorem oQ_ref {ad : Nat → Nat} {w : Nat → Int32} {h0 h1 : HP} {q : Nat} {r e : Int32} (hx : Ext h0 h1) (hq : cH ad w h1 q = none) : oQ ad w h0 (oR r e) (.inr q) (hu (cH ad w h1) q (bRef r e)) :=
  ⟨hu h1 q (bRef r e), hx.tr (Ext.new (ov_none hq).2), (cH_ext hx).none hq, hu_s, cH_new hq⟩
/-- thrown if P, else done: the state changed -/
def tcQ (P : Prop) (b : Bd) (h : HP) (h2 : HP) : Oc → HP → Prop := fun o h' => match o with
  | .inl v => ¬ P ∧ v = none ∧ h' = h2
  | .inr q => P ∧ h q = none ∧ h' = hu h q b
set_option maxHeartbeats 4000000 in
set_option maxRecDepth 100000 in
theorem sp_X1_isSeller {G : GG} {h : HP} {ad : Nat → Nat} {w : Nat → Int32} (hi : cI ad w) {x : Int32} : Ct G 1 0 M_X1_isSeller [.ref (ad 0), .int x] (cH ad w h) (eQ (some (.int (bi (isS w x)))) (cH ad w h)) := by
  refine ct_intro my_X1_isSeller (Nat.le_of_ble_eq_true rfl) ?_
  refine r_iload_n dX1_isSeller_0 rfl ?_
  refine r_iconst (v := 0) dX1_isSeller_1 rfl ?_
  first | refine r_aload_n dX1_isSeller_2 rfl ?_ | refine r_aload_nq dX1_isSeller_2 rfl ?_ | refine r_aload_nN dX1_isSeller_2 rfl ?_
  refine r_getfield 1 1 dX1_isSeller_3 rfl (Nat.le_of_ble_eq_true rfl) (lkA q298) (Or.inl rfl) (Or.inl (by first | exact c_0 hi | exact c_1 hi | exact c_2 hi | exact c_3 hi | exact c_4 hi | exact c_5 hi | exact c_6 hi)) (by rfl) ?_
  refine r_invV dX1_isSeller_6 (sp_J2_size (c_3 hi)) rfl mo_J2_size (Or.inl (c_3 hi)) rfl (lkA q1050) (lkA q530) (lkA q2242) rfl (lkA q68) mp_J2_size (Nat.le_of_ble_eq_true rfl) (Nat.le_of_ble_eq_true rfl) (Nat.le_of_ble_eq_true rfl) (kr_e ?_) kx_e
  refine r_iconst (v := 1) dX1_isSeller_9 rfl ?_
  refine r_isub dX1_isSeller_10 ?_
  refine r_invSN dX1_isSeller_11 (sp_X0_isIn ) rfl mo_X0_isIn (lkT q1165 rfl) (lkA q432) rfl (lkA q64) mp_X0_isIn (Nat.le_of_ble_eq_true rfl) (Nat.le_of_ble_eq_true rfl) (Nat.le_of_ble_eq_true rfl) (kr_e ?_) kx_e
  exact r_ireturn dX1_isSeller_14 rfl (by first | rfl | exact bi_nar) (by first | exact ⟨rfl, rfl⟩ | rfl)

set_option maxHeartbeats 4000000 in
set_option maxRecDepth 100000 in
theorem sp_X1_isSale {G : GG} {h : HP} {ad : Nat → Nat} {w : Nat → Int32} (hi : cI ad w) {x : Int32} : Ct G 1 0 M_X1_isSale [.ref (ad 0), .int x] (cH ad w h) (eQ (some (.int (bi (isL w x)))) (cH ad w h)) := by
  refine ct_intro my_X1_isSale (Nat.le_of_ble_eq_true rfl) ?_
  refine r_iload_n dX1_isSale_0 rfl ?_
  refine r_iconst (v := 0) dX1_isSale_1 rfl ?_
  first | refine r_aload_n dX1_isSale_2 rfl ?_ | refine r_aload_nq dX1_isSale_2 rfl ?_ | refine r_aload_nN dX1_isSale_2 rfl ?_
  refine r_getfield 1 2 dX1_isSale_3 rfl (Nat.le_of_ble_eq_true rfl) (lkA q300) (Or.inl rfl) (Or.inl (by first | exact c_0 hi | exact c_1 hi | exact c_2 hi | exact c_3 hi | exact c_4 hi | exact c_5 hi | exact c_6 hi)) (by rfl) ?_
  refine r_invV dX1_isSale_6 (sp_J4_size (c_5 hi)) rfl mo_J4_size (Or.inl (c_5 hi)) rfl (lkA q1362) (lkA q533) (lkA q2243) rfl (lkA q70) mp_J4_size (Nat.le_of_ble_eq_true rfl) (Nat.le_of_ble_eq_true rfl) (Nat.le_of_ble_eq_true rfl) (kr_e ?_) kx_e
  refine r_iconst (v := 1) dX1_isSale_9 rfl ?_
  refine r_isub dX1_isSale_10 ?_
  refine r_invSN dX1_isSale_11 (sp_X0_isIn ) rfl mo_X0_isIn (lkT q1165 rfl) (lkA q432) rfl (lkA q64) mp_X0_isIn (Nat.le_of_ble_eq_true rfl) (Nat.le_of_ble_eq_true rfl) (Nat.le_of_ble_eq_true rfl) (kr_e ?_) kx_e
  exact r_ireturn dX1_isSale_14 rfl (by first | rfl | exact bi_nar) (by first | exact ⟨rfl, rfl⟩ | rfl)

set_option maxHeartbeats 4000000 in
set_option maxRecDepth 100000 in
theorem sp_X1_inDepot {G : GG} {h : HP} {ad : Nat → Nat} {w : Nat → Int32} (hi : cI ad w)  : Ct G 0 0 M_X1_inDepot [.ref (ad 0)] (cH ad w h) (eQ (some (.int (w 14 + w 15 + w 16))) (cH ad w h)) := by
  refine ct_intro my_X1_inDepot (Nat.le_of_ble_eq_true rfl) ?_
  first | refine r_aload_n dX1_inDepot_0 rfl ?_ | refine r_aload_nq dX1_inDepot_0 rfl ?_ | refine r_aload_nN dX1_inDepot_0 rfl ?_
  refine r_getfield 1 3 dX1_inDepot_1 rfl (Nat.le_of_ble_eq_true rfl) (lkA q302) (Or.inl rfl) (Or.inl (by first | exact c_0 hi | exact c_1 hi | exact c_2 hi | exact c_3 hi | exact c_4 hi | exact c_5 hi | exact c_6 hi)) (by rfl) ?_
  refine r_iconst (v := 0) dX1_inDepot_4 rfl ?_
  refine r_iaload (0) dX1_inDepot_5 (Or.inl (by first | exact c_0 hi | exact c_1 hi | exact c_2 hi | exact c_3 hi | exact c_4 hi | exact c_5 hi | exact c_6 hi)) rfl (Nat.le_of_ble_eq_true rfl) rfl ?_
  first | refine r_aload_n dX1_inDepot_6 rfl ?_ | refine r_aload_nq dX1_inDepot_6 rfl ?_ | refine r_aload_nN dX1_inDepot_6 rfl ?_
  refine r_getfield 1 3 dX1_inDepot_7 rfl (Nat.le_of_ble_eq_true rfl) (lkA q302) (Or.inl rfl) (Or.inl (by first | exact c_0 hi | exact c_1 hi | exact c_2 hi | exact c_3 hi | exact c_4 hi | exact c_5 hi | exact c_6 hi)) (by rfl) ?_
  refine r_iconst (v := 1) dX1_inDepot_10 rfl ?_
  refine r_iaload (1) dX1_inDepot_11 (Or.inl (by first | exact c_0 hi | exact c_1 hi | exact c_2 hi | exact c_3 hi | exact c_4 hi | exact c_5 hi | exact c_6 hi)) rfl (Nat.le_of_ble_eq_true rfl) rfl ?_
  refine r_iadd dX1_inDepot_12 ?_
  first | refine r_aload_n dX1_inDepot_13 rfl ?_ | refine r_aload_nq dX1_inDepot_13 rfl ?_ | refine r_aload_nN dX1_inDepot_13 rfl ?_
  refine r_getfield 1 3 dX1_inDepot_14 rfl (Nat.le_of_ble_eq_true rfl) (lkA q302) (Or.inl rfl) (Or.inl (by first | exact c_0 hi | exact c_1 hi | exact c_2 hi | exact c_3 hi | exact c_4 hi | exact c_5 hi | exact c_6 hi)) (by rfl) ?_
  refine r_iconst (v := 2) dX1_inDepot_17 rfl ?_
  refine r_iaload (2) dX1_inDepot_18 (Or.inl (by first | exact c_0 hi | exact c_1 hi | exact c_2 hi | exact c_3 hi | exact c_4 hi | exact c_5 hi | exact c_6 hi)) rfl (Nat.le_of_ble_eq_true rfl) rfl ?_
  refine r_iadd dX1_inDepot_19 ?_
  exact r_ireturn dX1_inDepot_20 rfl (by first | rfl | exact bi_nar) (by first | exact ⟨rfl, rfl⟩ | rfl)

set_option maxHeartbeats 4000000 in
set_option maxRecDepth 100000 in
theorem sp_X1_pays {G : GG} {h : HP} {ad : Nat → Nat} {w : Nat → Int32} (hi : cI ad w) (hK : KS G) {x : Int32} : Ct G 6 9 M_X1_pays [.ref (ad 0), .int x] (cH ad w h) (tcQ (w 4 < x) (bRef 8 (x - w 4)) (cH ad w h) (cH ad (upd w 4 (w 4 - x)) h)) := by
  refine ct_intro my_X1_pays (Nat.le_of_ble_eq_true rfl) ?_
  first | refine r_aload_n dX1_pays_0 rfl ?_ | refine r_aload_nq dX1_pays_0 rfl ?_ | refine r_aload_nN dX1_pays_0 rfl ?_
  refine r_getfield 1 6 dX1_pays_1 rfl (Nat.le_of_ble_eq_true rfl) (lkA q308) (Or.inl rfl) (Or.inl (by first | exact c_0 hi | exact c_1 hi | exact c_2 hi | exact c_3 hi | exact c_4 hi | exact c_5 hi | exact c_6 hi)) (by rfl) ?_
  refine r_iload_n dX1_pays_4 rfl ?_
  refine r_icmp_ge 12 dX1_pays_5 rfl (fun c5 => ?_) (fun c5 => ?_)
  · refine r_iconst (v := 0) dX1_pays_12 rfl ?_
    refine r_bipush (v := 8) dX1_pays_13 rfl ?_
    refine r_iload_n dX1_pays_15 rfl ?_
    first | refine r_aload_n dX1_pays_16 rfl ?_ | refine r_aload_nq dX1_pays_16 rfl ?_ | refine r_aload_nN dX1_pays_16 rfl ?_
    refine r_getfield 1 6 dX1_pays_17 rfl (Nat.le_of_ble_eq_true rfl) (lkA q308) (Or.inl rfl) (Or.inl (by first | exact c_0 hi | exact c_1 hi | exact c_2 hi | exact c_3 hi | exact c_4 hi | exact c_5 hi | exact c_6 hi)) (by rfl) ?_
    refine r_isub dX1_pays_20 ?_
    refine r_invSN dX1_pays_21 (sp_X0_refuse0) rfl mo_X0_refuse (lkT q1051 rfl) (lkA q1052) rfl (lkA q64) mp_X0_refuse (Nat.le_of_ble_eq_true rfl) (Nat.le_of_ble_eq_true rfl) (Nat.le_of_ble_eq_true rfl) (kr_e ?_) kx_e
    first | refine r_aload_n dX1_pays_24 rfl ?_ | refine r_aload_nq dX1_pays_24 rfl ?_ | refine r_aload_nN dX1_pays_24 rfl ?_
    refine r_dup dX1_pays_25 rfl ?_
    refine r_getfield 1 6 dX1_pays_26 rfl (Nat.le_of_ble_eq_true rfl) (lkA q308) (Or.inl rfl) (Or.inl (by first | exact c_0 hi | exact c_1 hi | exact c_2 hi | exact c_3 hi | exact c_4 hi | exact c_5 hi | exact c_6 hi)) (by rfl) ?_
    refine r_iload_n dX1_pays_29 rfl ?_
    refine r_isub dX1_pays_30 ?_
    refine r_put 1 6 dX1_pays_31 rfl (Nat.le_of_ble_eq_true rfl) (lkA q308) (Or.inl rfl) rfl (c_0 hi) (by dsimp only [List.set]) (Nat.le_of_ble_eq_true rfl) rfl rfl (by first | exact hu_hu | exact rfl) ?_
    exact r_return dX1_pays_34 rfl ⟨Int32.not_lt.mpr c5, rfl, cu_4 hi⟩
  · refine r_iconst (v := 1) dX1_pays_8 rfl ?_
    refine r_goto 13 dX1_pays_9 rfl ?_
    refine r_bipush (v := 8) dX1_pays_13 rfl ?_
    refine r_iload_n dX1_pays_15 rfl ?_
    first | refine r_aload_n dX1_pays_16 rfl ?_ | refine r_aload_nq dX1_pays_16 rfl ?_ | refine r_aload_nN dX1_pays_16 rfl ?_
    refine r_getfield 1 6 dX1_pays_17 rfl (Nat.le_of_ble_eq_true rfl) (lkA q308) (Or.inl rfl) (Or.inl (by first | exact c_0 hi | exact c_1 hi | exact c_2 hi | exact c_3 hi | exact c_4 hi | exact c_5 hi | exact c_6 hi)) (by rfl) ?_
    refine r_isub dX1_pays_20 ?_
    refine r_invSN dX1_pays_21 (sp_X0_refuse1 hK) rfl mo_X0_refuse (lkT q1051 rfl) (lkA q1052) rfl (lkA q64) mp_X0_refuse (Nat.le_of_ble_eq_true rfl) (Nat.le_of_ble_eq_true rfl) (Nat.le_of_ble_eq_true rfl) (fun v9 h9 p9 => ?_) (fun q9 h9 ci9 fs9 p9 hq9 => (r_out hq9 rfl ⟨Int32.not_le.mp c5, p9.1, p9.2⟩))
    exact p9.elim

set_option maxHeartbeats 4000000 in
set_option maxRecDepth 100000 in
theorem sp_X1_checkMinutes {G : GG} {h : HP} {ad : Nat → Nat} {w : Nat → Int32} (hi : cI ad w) (hK : KS G) {x : Int32} : Ct G 6 9 M_X1_checkMinutes [.ref (ad 0), .int x] (cH ad w h) (tfQ (480 < w 1 + x) (bRef 3 (480 - w 1)) (cH ad w h)) := by
  refine ct_intro my_X1_checkMinutes (Nat.le_of_ble_eq_true rfl) ?_
  first | refine r_aload_n dX1_checkMinutes_0 rfl ?_ | refine r_aload_nq dX1_checkMinutes_0 rfl ?_ | refine r_aload_nN dX1_checkMinutes_0 rfl ?_
  refine r_getfield 1 5 dX1_checkMinutes_1 rfl (Nat.le_of_ble_eq_true rfl) (lkA q306) (Or.inl rfl) (Or.inl (by first | exact c_0 hi | exact c_1 hi | exact c_2 hi | exact c_3 hi | exact c_4 hi | exact c_5 hi | exact c_6 hi)) (by rfl) ?_
  refine r_iload_n dX1_checkMinutes_4 rfl ?_
  refine r_iadd dX1_checkMinutes_5 ?_
  refine r_sipush (v := 480) dX1_checkMinutes_6 rfl ?_
  refine r_icmp_le 16 dX1_checkMinutes_9 rfl (fun c9 => ?_) (fun c9 => ?_)
  · refine r_iconst (v := 0) dX1_checkMinutes_16 rfl ?_
    refine r_iconst (v := 3) dX1_checkMinutes_17 rfl ?_
    refine r_sipush (v := 480) dX1_checkMinutes_18 rfl ?_
    first | refine r_aload_n dX1_checkMinutes_21 rfl ?_ | refine r_aload_nq dX1_checkMinutes_21 rfl ?_ | refine r_aload_nN dX1_checkMinutes_21 rfl ?_
    refine r_getfield 1 5 dX1_checkMinutes_22 rfl (Nat.le_of_ble_eq_true rfl) (lkA q306) (Or.inl rfl) (Or.inl (by first | exact c_0 hi | exact c_1 hi | exact c_2 hi | exact c_3 hi | exact c_4 hi | exact c_5 hi | exact c_6 hi)) (by rfl) ?_
    refine r_isub dX1_checkMinutes_25 ?_
    refine r_invSN dX1_checkMinutes_26 (sp_X0_refuse0) rfl mo_X0_refuse (lkT q1051 rfl) (lkA q1052) rfl (lkA q64) mp_X0_refuse (Nat.le_of_ble_eq_true rfl) (Nat.le_of_ble_eq_true rfl) (Nat.le_of_ble_eq_true rfl) (kr_e ?_) kx_e
    exact r_return dX1_checkMinutes_29 rfl ⟨Int32.not_lt.mpr c9, rfl, rfl⟩
  · refine r_iconst (v := 1) dX1_checkMinutes_12 rfl ?_
    refine r_goto 17 dX1_checkMinutes_13 rfl ?_
    refine r_iconst (v := 3) dX1_checkMinutes_17 rfl ?_
    refine r_sipush (v := 480) dX1_checkMinutes_18 rfl ?_
    first | refine r_aload_n dX1_checkMinutes_21 rfl ?_ | refine r_aload_nq dX1_checkMinutes_21 rfl ?_ | refine r_aload_nN dX1_checkMinutes_21 rfl ?_
    refine r_getfield 1 5 dX1_checkMinutes_22 rfl (Nat.le_of_ble_eq_true rfl) (lkA q306) (Or.inl rfl) (Or.inl (by first | exact c_0 hi | exact c_1 hi | exact c_2 hi | exact c_3 hi | exact c_4 hi | exact c_5 hi | exact c_6 hi)) (by rfl) ?_
    refine r_isub dX1_checkMinutes_25 ?_
    refine r_invSN dX1_checkMinutes_26 (sp_X0_refuse1 hK) rfl mo_X0_refuse (lkT q1051 rfl) (lkA q1052) rfl (lkA q64) mp_X0_refuse (Nat.le_of_ble_eq_true rfl) (Nat.le_of_ble_eq_true rfl) (Nat.le_of_ble_eq_true rfl) (fun v9 h9 p9 => ?_) (fun q9 h9 ci9 fs9 p9 hq9 => (r_out hq9 rfl ⟨Int32.not_le.mp c9, p9.1, p9.2⟩))
    exact p9.elim

set_option maxHeartbeats 4000000 in
set_option maxRecDepth 100000 in
theorem sp_X1_checkAtDepot {G : GG} {h : HP} (hK : KS G) {a : Nat} {c p w s b g : Int32} {r : Nat} (ha : h a = some (bO 4 [.int c, .int p, .int w, .ref r, .int s, .int b, .int g]))  : Ct G 6 9 M_X1_checkAtDepot [.ref a] h (tfQ (¬ p = 0) (bRef 4 p) h) := by
  refine ct_intro my_X1_checkAtDepot (Nat.le_of_ble_eq_true rfl) ?_
  first | refine r_aload_n dX1_checkAtDepot_0 rfl ?_ | refine r_aload_nq dX1_checkAtDepot_0 rfl ?_ | refine r_aload_nN dX1_checkAtDepot_0 rfl ?_
  refine r_iconst (v := 0) dX1_checkAtDepot_1 rfl ?_
  refine r_invD (owner := "BrushSellers$Placed") dX1_checkAtDepot_2 (sp_X7_isAt ha) rfl mo_X7_isAt (by first | exact Or.inl (by assumption) | assumption | (refine Or.inl ?_; repeat' first | assumption | exact hu_s | refine hu_o (by assumption) ?_ | refine (hu_n (by first | assumption | exact Ne.symm (by assumption) | exact ne_o (by assumption) (by assumption) | exact Ne.symm (ne_o (by assumption) (by assumption)))).trans ?_)) rfl nw_1 nw_5 q1176 ⟨by decide +kernel, by decide +kernel⟩ nw_7 (lkA q1178) rfl (show _ = some 1 from by decide +kernel) (lkA q102) mp_X7_isAt (Nat.le_of_ble_eq_true rfl) (Nat.le_of_ble_eq_true rfl) (Nat.le_of_ble_eq_true rfl) (kr_e ?_) kx_e
  refine r_if_ne 12 dX1_checkAtDepot_5 rfl (fun c5 => ?_) (fun c5 => ?_)
  · refine r_iconst (v := 0) dX1_checkAtDepot_12 rfl ?_
    refine r_iconst (v := 4) dX1_checkAtDepot_13 rfl ?_
    first | refine r_aload_n dX1_checkAtDepot_14 rfl ?_ | refine r_aload_nq dX1_checkAtDepot_14 rfl ?_ | refine r_aload_nN dX1_checkAtDepot_14 rfl ?_
    refine r_getfieldN 4 1 dX1_checkAtDepot_15 rfl (Nat.le_of_ble_eq_true rfl) (lkT q876 rfl) (Or.inl rfl) (Or.inl ha) (by rfl) ?_
    refine r_invSN dX1_checkAtDepot_18 (sp_X0_refuse0) rfl mo_X0_refuse (lkT q1051 rfl) (lkA q1052) rfl (lkA q64) mp_X0_refuse (Nat.le_of_ble_eq_true rfl) (Nat.le_of_ble_eq_true rfl) (Nat.le_of_ble_eq_true rfl) (kr_e ?_) kx_e
    exact r_return dX1_checkAtDepot_21 rfl ⟨fun e => e (of_decide_eq_true (bi_n0.mp c5)), rfl, rfl⟩
  · refine r_iconst (v := 1) dX1_checkAtDepot_8 rfl ?_
    refine r_goto 13 dX1_checkAtDepot_9 rfl ?_
    refine r_iconst (v := 4) dX1_checkAtDepot_13 rfl ?_
    first | refine r_aload_n dX1_checkAtDepot_14 rfl ?_ | refine r_aload_nq dX1_checkAtDepot_14 rfl ?_ | refine r_aload_nN dX1_checkAtDepot_14 rfl ?_
    refine r_getfieldN 4 1 dX1_checkAtDepot_15 rfl (Nat.le_of_ble_eq_true rfl) (lkT q876 rfl) (Or.inl rfl) (Or.inl ha) (by rfl) ?_
    refine r_invSN dX1_checkAtDepot_18 (sp_X0_refuse1 hK) rfl mo_X0_refuse (lkT q1051 rfl) (lkA q1052) rfl (lkA q64) mp_X0_refuse (Nat.le_of_ble_eq_true rfl) (Nat.le_of_ble_eq_true rfl) (Nat.le_of_ble_eq_true rfl) (fun v9 h9 p9 => ?_) (fun q9 h9 ci9 fs9 p9 hq9 => (r_out hq9 rfl ⟨of_decide_eq_false (bi_0.mp c5), p9.1, p9.2⟩))
    exact p9.elim

