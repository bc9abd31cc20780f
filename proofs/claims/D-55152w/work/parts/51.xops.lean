set_option maxRecDepth 100000
theorem inv_w {D : Int} {w : Nat → Int32} (hI : Inv D w) : (w 2).toInt = (tn (w 2) : Int) ∧ tn (w 2) ≤ 4 ∧ (w 3).toInt = (tn (w 3) : Int) ∧ tn (w 3) ≤ 40 ∧ ∀ k, k < tn (w 3) → w (133 + 7 * k + 6) = 0 ∨ w (133 + 7 * k + 6) = 1 := by
  have h2 := hI.2.2.1
  have h3 := hI.2.2.2.1
  refine ⟨by unfold tn; omega, by unfold tn; omega, by unfold tn; omega, by unfold tn; omega, fun k hk => (hI.2.2.2.2.2.2.2 k ?_).2.2.2.2.2⟩
  unfold tn at hk
  omega
theorem inv_l {D : Int} {w : Nat → Int32} (hI : Inv D w) {i : Nat} (hi : (i : Int) < (w 3).toInt) : ((w (133 + 7 * i)).toInt = (tn (w (133 + 7 * i)) : Int) ∧ tn (w (133 + 7 * i)) < 4 ∧ (tn (w (133 + 7 * i)) : Int) < (w 2).toInt) ∧ ((w (133 + 7 * i + 1)).toInt = (tn (w (133 + 7 * i + 1)) : Int) ∧ tn (w (133 + 7 * i + 1)) < 20) ∧ ((w (133 + 7 * i + 2)).toInt = (tn (w (133 + 7 * i + 2)) : Int) ∧ tn (w (133 + 7 * i + 2)) < 3) ∧ (w (133 + 7 * i + 6) = 0 ∨ w (133 + 7 * i + 6) = 1) := by
  have h2 := hI.2.2.1
  obtain ⟨h0, h1, h3, -, -, h6⟩ := hI.2.2.2.2.2.2.2 i hi
  have h0 : 0 ≤ (w (133 + 7 * i)).toInt ∧ (w (133 + 7 * i)).toInt < (w 2).toInt := h0
  have h1 : 0 ≤ (w (133 + 7 * i + 1)).toInt ∧ (w (133 + 7 * i + 1)).toInt ≤ 19 := h1
  have h3 : 0 ≤ (w (133 + 7 * i + 2)).toInt ∧ (w (133 + 7 * i + 2)).toInt ≤ 2 := h3
  refine ⟨⟨?_, ?_, ?_⟩, ⟨?_, ?_⟩, ⟨?_, ?_⟩, h6⟩ <;> unfold tn <;> omega
theorem inv_md {D : Int} {w : Nat → Int32} (hI : Inv D w) {P : Nat} (hP : P < 20) : (gMd w P).toInt ≤ 9 := by
  have h := (hI.2.2.2.2.2.2.1 P hP).2.1
  unfold gMd
  rw [tI_sub]
  simp only [Int32.reduceToInt]
  rw [if_pos (by omega)]
  omega
theorem op_mid {X D R hd u : Nat} {aS : Nat → Nat → Nat} {wS : Nat → Nat → Int32} {sv : Bool} {rs dt : Int32} {tx la : Nat} {h H1 H2 : HP} {ad2 : Nat → Nat} {w' : Nat → Int32} (hO : CO X D R hd u aS sv rs dt tx la h) (hC : CS aS wS u sv h) (hx : Ext h H1) (f2 : ∀ k, k < 160 → cdom (wS 0) k = true → h (ad2 k) = none) (s2 : St H1 ad2 (wS 0)) (hP : cP (aS 0) (wS 0) H1 w' H2) : CO X D R hd u aS sv rs dt tx la H2 ∧ H2 (ad2 0) = some (cCo ad2 (wS 0)) ∧ ad2 0 ≠ D := by
  have l0 : lvS u sv 0 := Or.inl rfl
  have S0 := (hC.1 0 l0).1
  have fr2 := cP_fr (St_ext S0 hx) hP
  refine ⟨⟨fr2 _ _ (cF_kd S0 hO.1 kn0) (hx _ _ hO.1), fr2 _ _ (cF_kd S0 hO.2.1 kn13) (hx _ _ hO.2.1), fr2 _ _ (cF_kd S0 hO.2.2.1 kn1017) (hx _ _ hO.2.2.1), hO.2.2.2⟩, fr2 _ _ (fam_none fun j hj dj e => ?_) (s_0 s2), Ne.symm (ne_o (f2 0 (by decide) (cdm_i (by omega))) hO.2.1)⟩
  have := S0 j hj dj
  rw [e, f2 0 (by decide) (cdm_i (by omega))] at this
  cases this
theorem fl_o {G : GG} {d c : Nat} {M : Mt} {As : List Value} {ad : Nat → Nat} {w : Nat → Int32} {H : HP} {r : OpR} (hs : St H ad w) (e : Ct G d c M As (cH ad w H) (oQ ad w H r)) : Ct G d c M As H (oQ ad w H r) := by
  rw [← St_eq hs] at e
  exact e
theorem fl_e {G : GG} {d c : Nat} {M : Mt} {As : List Value} {ad : Nat → Nat} {w : Nat → Int32} {H : HP} {v : Option Value} (hs : St H ad w) (e : Ct G d c M As (cH ad w H) (eQ v (cH ad w H))) : Ct G d c M As H (eQ v H) := by
  rw [← St_eq hs] at e
  exact e
theorem fl_x {G : GG} {d c : Nat} {M : Mt} {As : List Value} {ad : Nat → Nat} {w : Nat → Int32} {H : HP} {v : Option Value} (hs : St H ad w) (e : Ct G d c M As (cH ad w H) (rQ (fun v' h' => v' = v ∧ ∃ h1, Ext H h1 ∧ h' = cH ad w h1))) : Ct G d c M As H (rQ (fun v' h' => v' = v ∧ Ext H h')) := by
  have e2 := e.mono (Q := rQ (fun v' h' => v' = v ∧ Ext H h')) (fun u h' hq => by
    rcases u with x | x
    · obtain ⟨rfl, h1, hx, rfl⟩ := hq
      refine ⟨rfl, fun q b hb => ?_⟩
      exact cH_ext hx q b (by rw [← St_eq hs]; exact hb)
    · exact hq.elim)
  rw [← St_eq hs] at e2
  exact e2
theorem isTk_r {z : Int32} (h : isTk z = true) : -12 ≤ z.toInt ∧ z.toInt ≤ 12 := by
  unfold isTk at h
  have h2 := (Bool.and_eq_true _ _ ▸ h : _ ∧ _).2
  have := isn_t.mp h2
  have e1 : (-12 : Int32).toInt = -12 := rfl
  have e2 : (12 : Int32).toInt = 12 := rfl
  omega
theorem tn_0e {x : Int32} (h : 0 ≤ x.toInt) : x.toInt = (tn x : Int) := by
  unfold tn
  omega
theorem tn_le {x : Int32} {n : Nat} (h : 0 ≤ x.toInt) (h2 : x.toInt < (n : Int)) : tn x < n := by
  unfold tn
  omega
theorem tn_g {x : Int32} (h : 0 ≤ x.toInt ∧ x.toInt ≤ 19) : x.toInt = (tn x : Int) ∧ tn x < 20 := by
  unfold tn
  omega
theorem ring_y {G : GG} {d c : Nat} {X : Value} {x y z : Int32} {H H0 : HP} {ad : Nat → Nat} {w : Nat → Int32} (hy : y.toInt = (tn y : Int)) (e : Ct G d c M_X1_rings [X, .int x, .int (nI (tn y)), .int z] H (oQ ad w H0 (oRings w x (nI (tn y)) z))) : Ct G d c M_X1_rings [X, .int x, .int y, .int z] H (oQ ad w H0 (oRings w x y z)) := by
  rw [← i32_of hy] at e
  exact e
set_option maxHeartbeats 4000000 in
set_option maxRecDepth 100000 in
theorem sp_X0_seller {G : GG} {h : HP} (hK : KS G) {X D R hd u : Nat} {aS : Nat → Nat → Nat} {wS : Nat → Nat → Int32} {sv : Bool} {rs dt : Int32} {tx la : Nat} (hO : CO X D R hd u aS sv rs dt tx la h) (hC : CS aS wS u sv h) {D9 : Int} (hI : Inv D9 (wS 0)) {y : Int32} : Ct G 12 3600 M_X0_seller [.ref X, .int y] h (puQ X D R hd u aS wS sv rs dt tx la h (oSeller (wS 0) y)) := by
  refine ct_intro my_X0_seller (Nat.le_of_ble_eq_true rfl) ?_
  have hX := hO.1
  have S0 := (hC.1 0 (Or.inl rfl)).1
  have I0 := (hC.1 0 (Or.inl rfl)).2
  obtain ⟨hw2, hw24, hw3, hw34, h6⟩ := inv_w hI
  refine r_iload_n dX0_seller_0 rfl ?_
  refine r_iconst (v := 0) dX0_seller_1 rfl ?_
  refine r_bipush (v := 9) dX0_seller_2 rfl ?_
  refine r_invS dX0_seller_4 (sp_X0_isIn ) rfl mo_X0_isIn (lkA q431) (lkA q432) (lkA q64) mp_X0_isIn (Nat.le_of_ble_eq_true rfl) (Nat.le_of_ble_eq_true rfl) (Nat.le_of_ble_eq_true rfl) (kr_e ?_) kx_e
  refine r_if_ne 13 dX0_seller_7 rfl (fun c7 => ?_) (fun c7 => ?_)
  · first | refine r_aload_n dX0_seller_13 rfl ?_ | refine r_aload_nq dX0_seller_13 rfl ?_ | refine r_aload_nN dX0_seller_13 rfl ?_
    refine r_getfield 0 0 dX0_seller_14 rfl (Nat.le_of_ble_eq_true rfl) (lkA q404) (Or.inl rfl) (Or.inl hX) (by rfl) ?_
    refine r_invV dX0_seller_17 (sp_X1_copy hK S0 I0 hw2 hw24 hw3 hw34 h6) rfl mo_X1_copy (Or.inl (s_0 S0)) rfl (lkA q434) (lkA q435) (lkA q436) rfl (lkA q65) mp_X1_copy (Nat.le_of_ble_eq_true rfl) (Nat.le_of_ble_eq_true rfl) (Nat.le_of_ble_eq_true rfl) (kr_r (fun v9 H1 p9 => ?_)) kx_r
    obtain ⟨ad2, rfl, i2, f2, s2, hx2⟩ := p9
    have S1 : St H1 (aS 0) (wS 0) := St_ext S0 hx2
    first | refine r_astore_n dX0_seller_20 (Nat.le_of_ble_eq_true rfl) ?_ | refine r_astore_nq dX0_seller_20 (Nat.le_of_ble_eq_true rfl) ?_ | refine r_astore_nN dX0_seller_20 (Nat.le_of_ble_eq_true rfl) ?_
    first | refine r_aload_n dX0_seller_21 rfl ?_ | refine r_aload_nq dX0_seller_21 rfl ?_ | refine r_aload_nN dX0_seller_21 rfl ?_
    first | refine r_aload_n dX0_seller_22 rfl ?_ | refine r_aload_nq dX0_seller_22 rfl ?_ | refine r_aload_nN dX0_seller_22 rfl ?_
    first | refine r_aload_n dX0_seller_23 rfl ?_ | refine r_aload_nq dX0_seller_23 rfl ?_ | refine r_aload_nN dX0_seller_23 rfl ?_
    refine r_getfield 0 0 dX0_seller_24 rfl (Nat.le_of_ble_eq_true rfl) (lkA q404) (Or.inl rfl) (Or.inl (hx2 _ _ hX)) (by rfl) ?_
    refine r_iload_n dX0_seller_27 rfl ?_
    refine r_invV dX0_seller_28 (fl_o S1 (sp_X1_comes (h := H1) I0 hK (y := y) (bi_n0.mp c7) (tn (wS 0 2)) hw2 hw24)) rfl mo_X1_comes (Or.inl (s_0 S1)) rfl (lkA q1046) (lkA q1047) (lkA q1048) rfl (lkA q65) mp_X1_comes (Nat.le_of_ble_eq_true rfl) (Nat.le_of_ble_eq_true rfl) (Nat.le_of_ble_eq_true rfl) (fun v9 h9 p9 => ?_) (fun q9 h9 ci9 fs9 p9 hq9 => ?_)
    rotate_left
    · obtain ⟨a9, b9, hr9, h1, hx3, hq3, hqb, rfl⟩ := oQ_inr p9
      have hx4 : Ext h (cH (aS 0) (wS 0) h1) := fun q b hb => cH_ext hx3 q b (by rw [← St_eq S1]; exact hx2 q b hb)
      have hq9b : cH (aS 0) (wS 0) h1 q9 = some (bRef a9 b9) := (ov_n (ov_none hq3).1).trans hqb
      refine r_catch hq9b rfl [] _ [] rfl (fun _ h => by cases h) rfl (by decide) (lkA q430) (lkT q1055 rfl) ?_
      first | refine r_astore_n dX0_seller_35 (Nat.le_of_ble_eq_true rfl) ?_ | refine r_astore_nq dX0_seller_35 (Nat.le_of_ble_eq_true rfl) ?_ | refine r_astore_nN dX0_seller_35 (Nat.le_of_ble_eq_true rfl) ?_
      first | refine r_aload_n dX0_seller_36 rfl ?_ | refine r_aload_nq dX0_seller_36 rfl ?_ | refine r_aload_nN dX0_seller_36 rfl ?_
      first | refine r_aload_n dX0_seller_37 rfl ?_ | refine r_aload_nq dX0_seller_37 rfl ?_ | refine r_aload_nN dX0_seller_37 rfl ?_
      refine r_invV dX0_seller_38 (sp_X0_refused (hx4 _ _ hX) hq9b) rfl mo_X0_refused (Or.inl (hx4 _ _ hX)) rfl (lkA q1123) (lkA q1125) (lkA qs16) rfl (lkA q64) mp_X0_refused (Nat.le_of_ble_eq_true rfl) (Nat.le_of_ble_eq_true rfl) (Nat.le_of_ble_eq_true rfl) (kr_e ?_) kx_e
      exact r_ireturn dX0_seller_41 rfl (by first | rfl | exact bi_nar) (by rw [hr9]; exact op_R hO hC hx4)
    obtain ⟨a9, w9, hr9, rfl, hP9⟩ := oQ_inl p9
    obtain ⟨hO2, hv2, hvD⟩ := op_mid hO hC hx2 f2 s2 hP9
    refine r_invV dX0_seller_31 (sp_X0_changed hO2 hv2 hvD) rfl mo_X0_changed (Or.inl hO2.1) rfl (lkA q1082) (lkA q1084) (lkA qs13) rfl (lkA q64) mp_X0_changed (Nat.le_of_ble_eq_true rfl) (Nat.le_of_ble_eq_true rfl) (Nat.le_of_ble_eq_true rfl) (kr_r (fun v9 h9 p9 => ?_)) kx_r
    obtain ⟨rfl, hd', u', it', hch, rfl⟩ := p9
    exact r_ireturn dX0_seller_34 rfl (by first | rfl | exact bi_nar) (by rw [hr9]; exact op_K2 hO hC hx2 i2 f2 s2 hP9 hch)
  · refine r_bipush (v := (-12)) dX0_seller_10 rfl ?_
    exact r_ireturn dX0_seller_12 rfl (by first | rfl | exact bi_nar) (by rw [show oSeller (wS 0) y = oC (-12) by unfold oSeller; rw [if_neg (by rw [bi_0.mp c7]; decide)]]; exact op_C hO hC)

set_option maxHeartbeats 4000000 in
set_option maxRecDepth 100000 in
theorem sp_X0_dog {G : GG} {h : HP} (hK : KS G) {X D R hd u : Nat} {aS : Nat → Nat → Nat} {wS : Nat → Nat → Int32} {sv : Bool} {rs dt : Int32} {tx la : Nat} (hO : CO X D R hd u aS sv rs dt tx la h) (hC : CS aS wS u sv h) {D9 : Int} (hI : Inv D9 (wS 0)) {x y : Int32} : Ct G 12 3600 M_X0_dog [.ref X, .int x, .int y] h (puQ X D R hd u aS wS sv rs dt tx la h (oDog (wS 0) x y)) := by
  refine ct_intro my_X0_dog (Nat.le_of_ble_eq_true rfl) ?_
  have hX := hO.1
  have S0 := (hC.1 0 (Or.inl rfl)).1
  have I0 := (hC.1 0 (Or.inl rfl)).2
  obtain ⟨hw2, hw24, hw3, hw34, h6⟩ := inv_w hI
  refine r_iload_n dX0_dog_0 rfl ?_
  refine r_invS dX0_dog_1 (sp_X0_isHouse ) rfl mo_X0_isHouse (lkA q1131) (lkA q1132) (lkA q64) mp_X0_isHouse (Nat.le_of_ble_eq_true rfl) (Nat.le_of_ble_eq_true rfl) (Nat.le_of_ble_eq_true rfl) (kr_e ?_) kx_e
  refine r_if_ne 10 dX0_dog_4 rfl (fun c4 => ?_) (fun c4 => ?_)
  · refine r_iload_n dX0_dog_10 rfl ?_
    refine r_iconst (v := 0) dX0_dog_11 rfl ?_
    refine r_bipush (v := 9) dX0_dog_12 rfl ?_
    refine r_invS dX0_dog_14 (sp_X0_isIn ) rfl mo_X0_isIn (lkA q431) (lkA q432) (lkA q64) mp_X0_isIn (Nat.le_of_ble_eq_true rfl) (Nat.le_of_ble_eq_true rfl) (Nat.le_of_ble_eq_true rfl) (kr_e ?_) kx_e
    refine r_if_ne 23 dX0_dog_17 rfl (fun c17 => ?_) (fun c17 => ?_)
    · first | refine r_aload_n dX0_dog_23 rfl ?_ | refine r_aload_nq dX0_dog_23 rfl ?_ | refine r_aload_nN dX0_dog_23 rfl ?_
      refine r_getfield 0 0 dX0_dog_24 rfl (Nat.le_of_ble_eq_true rfl) (lkA q404) (Or.inl rfl) (Or.inl hX) (by rfl) ?_
      refine r_invV dX0_dog_27 (sp_X1_copy hK S0 I0 hw2 hw24 hw3 hw34 h6) rfl mo_X1_copy (Or.inl (s_0 S0)) rfl (lkA q434) (lkA q435) (lkA q436) rfl (lkA q65) mp_X1_copy (Nat.le_of_ble_eq_true rfl) (Nat.le_of_ble_eq_true rfl) (Nat.le_of_ble_eq_true rfl) (kr_r (fun v9 H1 p9 => ?_)) kx_r
      obtain ⟨ad2, rfl, i2, f2, s2, hx2⟩ := p9
      have S1 : St H1 (aS 0) (wS 0) := St_ext S0 hx2
      first | refine r_astore_n dX0_dog_30 (Nat.le_of_ble_eq_true rfl) ?_ | refine r_astore_nq dX0_dog_30 (Nat.le_of_ble_eq_true rfl) ?_ | refine r_astore_nN dX0_dog_30 (Nat.le_of_ble_eq_true rfl) ?_
      first | refine r_aload_n dX0_dog_31 rfl ?_ | refine r_aload_nq dX0_dog_31 rfl ?_ | refine r_aload_nN dX0_dog_31 rfl ?_
      first | refine r_aload_n dX0_dog_32 rfl ?_ | refine r_aload_nq dX0_dog_32 rfl ?_ | refine r_aload_nN dX0_dog_32 rfl ?_
      first | refine r_aload_n dX0_dog_33 rfl ?_ | refine r_aload_nq dX0_dog_33 rfl ?_ | refine r_aload_nN dX0_dog_33 rfl ?_
      refine r_getfield 0 0 dX0_dog_34 rfl (Nat.le_of_ble_eq_true rfl) (lkA q404) (Or.inl rfl) (Or.inl (hx2 _ _ hX)) (by rfl) ?_
      refine r_iload_n dX0_dog_37 rfl ?_
      refine r_iload_n dX0_dog_38 rfl ?_
      refine r_invV dX0_dog_39 (fl_o S1 (sp_X1_bringsDog (h := H1) I0 hK (isH_of c4) (bi_n0.mp c17))) rfl mo_X1_bringsDog (Or.inl (s_0 S1)) rfl (lkA q1134) (lkA q1135) (lkA q1136) rfl (lkA q65) mp_X1_bringsDog (Nat.le_of_ble_eq_true rfl) (Nat.le_of_ble_eq_true rfl) (Nat.le_of_ble_eq_true rfl) (fun v9 h9 p9 => ?_) (fun q9 h9 ci9 fs9 p9 hq9 => ?_)
      rotate_left
      · obtain ⟨a9, b9, hr9, h1, hx3, hq3, hqb, rfl⟩ := oQ_inr p9
        have hx4 : Ext h (cH (aS 0) (wS 0) h1) := fun q b hb => cH_ext hx3 q b (by rw [← St_eq S1]; exact hx2 q b hb)
        have hq9b : cH (aS 0) (wS 0) h1 q9 = some (bRef a9 b9) := (ov_n (ov_none hq3).1).trans hqb
        refine r_catch hq9b rfl [] _ [] rfl (fun _ h => by cases h) rfl (by decide) (lkA q430) (lkT q1055 rfl) ?_
        first | refine r_astore dX0_dog_46 (Nat.le_of_ble_eq_true rfl) ?_ | refine r_astoreq dX0_dog_46 (Nat.le_of_ble_eq_true rfl) ?_ | refine r_astoreN dX0_dog_46 (Nat.le_of_ble_eq_true rfl) ?_
        first | refine r_aload_n dX0_dog_48 rfl ?_ | refine r_aload_nq dX0_dog_48 rfl ?_ | refine r_aload_nN dX0_dog_48 rfl ?_
        first | refine r_aload dX0_dog_49 rfl ?_ | refine r_aloadq dX0_dog_49 rfl ?_ | refine r_aloadN dX0_dog_49 rfl ?_
        refine r_invV dX0_dog_51 (sp_X0_refused (hx4 _ _ hX) hq9b) rfl mo_X0_refused (Or.inl (hx4 _ _ hX)) rfl (lkA q1123) (lkA q1125) (lkA qs16) rfl (lkA q64) mp_X0_refused (Nat.le_of_ble_eq_true rfl) (Nat.le_of_ble_eq_true rfl) (Nat.le_of_ble_eq_true rfl) (kr_e ?_) kx_e
        exact r_ireturn dX0_dog_54 rfl (by first | rfl | exact bi_nar) (by rw [hr9]; exact op_R hO hC hx4)
      obtain ⟨a9, w9, hr9, rfl, hP9⟩ := oQ_inl p9
      obtain ⟨hO2, hv2, hvD⟩ := op_mid hO hC hx2 f2 s2 hP9
      refine r_invV dX0_dog_42 (sp_X0_changed hO2 hv2 hvD) rfl mo_X0_changed (Or.inl hO2.1) rfl (lkA q1082) (lkA q1084) (lkA qs13) rfl (lkA q64) mp_X0_changed (Nat.le_of_ble_eq_true rfl) (Nat.le_of_ble_eq_true rfl) (Nat.le_of_ble_eq_true rfl) (kr_r (fun v9 h9 p9 => ?_)) kx_r
      obtain ⟨rfl, hd', u', it', hch, rfl⟩ := p9
      exact r_ireturn dX0_dog_45 rfl (by first | rfl | exact bi_nar) (by rw [hr9]; exact op_K2 hO hC hx2 i2 f2 s2 hP9 hch)
    · refine r_bipush (v := (-12)) dX0_dog_20 rfl ?_
      exact r_ireturn dX0_dog_22 rfl (by first | rfl | exact bi_nar) (by rw [show oDog (wS 0) x y = oC (-12) by unfold oDog; rw [if_pos (bi_n0.mp c4), if_neg (by rw [bi_0.mp c17]; decide)]]; exact op_C hO hC)
  · refine r_bipush (v := (-11)) dX0_dog_7 rfl ?_
    exact r_ireturn dX0_dog_9 rfl (by first | rfl | exact bi_nar) (by rw [show oDog (wS 0) x y = oC (-11) by unfold oDog; rw [if_neg (by rw [bi_0.mp c4]; decide)]]; exact op_C hO hC)

set_option maxHeartbeats 4000000 in
set_option maxRecDepth 100000 in
theorem sp_X0_make {G : GG} {h : HP} (hK : KS G) {X D R hd u : Nat} {aS : Nat → Nat → Nat} {wS : Nat → Nat → Int32} {sv : Bool} {rs dt : Int32} {tx la : Nat} (hO : CO X D R hd u aS sv rs dt tx la h) (hC : CS aS wS u sv h) {D9 : Int} (hI : Inv D9 (wS 0)) {x y : Int32} : Ct G 12 3600 M_X0_make [.ref X, .int x, .int y] h (puQ X D R hd u aS wS sv rs dt tx la h (oMake (wS 0) x y)) := by
  refine ct_intro my_X0_make (Nat.le_of_ble_eq_true rfl) ?_
  have hX := hO.1
  have S0 := (hC.1 0 (Or.inl rfl)).1
  have I0 := (hC.1 0 (Or.inl rfl)).2
  obtain ⟨hw2, hw24, hw3, hw34, h6⟩ := inv_w hI
  refine r_iload_n dX0_make_0 rfl ?_
  refine r_invS dX0_make_1 (sp_X0_isBristle ) rfl mo_X0_isBristle (lkA q1146) (lkA q1147) (lkA q64) mp_X0_isBristle (Nat.le_of_ble_eq_true rfl) (Nat.le_of_ble_eq_true rfl) (Nat.le_of_ble_eq_true rfl) (kr_e ?_) kx_e
  refine r_if_ne 10 dX0_make_4 rfl (fun c4 => ?_) (fun c4 => ?_)
  · refine r_iload_n dX0_make_10 rfl ?_
    refine r_iconst (v := 1) dX0_make_11 rfl ?_
    refine r_bipush (v := 50) dX0_make_12 rfl ?_
    refine r_invS dX0_make_14 (sp_X0_isIn ) rfl mo_X0_isIn (lkA q431) (lkA q432) (lkA q64) mp_X0_isIn (Nat.le_of_ble_eq_true rfl) (Nat.le_of_ble_eq_true rfl) (Nat.le_of_ble_eq_true rfl) (kr_e ?_) kx_e
    refine r_if_ne 23 dX0_make_17 rfl (fun c17 => ?_) (fun c17 => ?_)
    · first | refine r_aload_n dX0_make_23 rfl ?_ | refine r_aload_nq dX0_make_23 rfl ?_ | refine r_aload_nN dX0_make_23 rfl ?_
      refine r_getfield 0 0 dX0_make_24 rfl (Nat.le_of_ble_eq_true rfl) (lkA q404) (Or.inl rfl) (Or.inl hX) (by rfl) ?_
      refine r_invV dX0_make_27 (sp_X1_copy hK S0 I0 hw2 hw24 hw3 hw34 h6) rfl mo_X1_copy (Or.inl (s_0 S0)) rfl (lkA q434) (lkA q435) (lkA q436) rfl (lkA q65) mp_X1_copy (Nat.le_of_ble_eq_true rfl) (Nat.le_of_ble_eq_true rfl) (Nat.le_of_ble_eq_true rfl) (kr_r (fun v9 H1 p9 => ?_)) kx_r
      obtain ⟨ad2, rfl, i2, f2, s2, hx2⟩ := p9
      have S1 : St H1 (aS 0) (wS 0) := St_ext S0 hx2
      first | refine r_astore_n dX0_make_30 (Nat.le_of_ble_eq_true rfl) ?_ | refine r_astore_nq dX0_make_30 (Nat.le_of_ble_eq_true rfl) ?_ | refine r_astore_nN dX0_make_30 (Nat.le_of_ble_eq_true rfl) ?_
      first | refine r_aload_n dX0_make_31 rfl ?_ | refine r_aload_nq dX0_make_31 rfl ?_ | refine r_aload_nN dX0_make_31 rfl ?_
      first | refine r_aload_n dX0_make_32 rfl ?_ | refine r_aload_nq dX0_make_32 rfl ?_ | refine r_aload_nN dX0_make_32 rfl ?_
      first | refine r_aload_n dX0_make_33 rfl ?_ | refine r_aload_nq dX0_make_33 rfl ?_ | refine r_aload_nN dX0_make_33 rfl ?_
      refine r_getfield 0 0 dX0_make_34 rfl (Nat.le_of_ble_eq_true rfl) (lkA q404) (Or.inl rfl) (Or.inl (hx2 _ _ hX)) (by rfl) ?_
      refine r_iload_n dX0_make_37 rfl ?_
      refine r_iload_n dX0_make_38 rfl ?_
      refine r_invV dX0_make_39 (fl_o S1 (sp_X1_makes (h := H1) I0 hK (isB_of c4) (bi_n0.mp c17))) rfl mo_X1_makes (Or.inl (s_0 S1)) rfl (lkA q1149) (lkA q1150) (lkA q1151) rfl (lkA q65) mp_X1_makes (Nat.le_of_ble_eq_true rfl) (Nat.le_of_ble_eq_true rfl) (Nat.le_of_ble_eq_true rfl) (fun v9 h9 p9 => ?_) (fun q9 h9 ci9 fs9 p9 hq9 => ?_)
      rotate_left
      · obtain ⟨a9, b9, hr9, h1, hx3, hq3, hqb, rfl⟩ := oQ_inr p9
        have hx4 : Ext h (cH (aS 0) (wS 0) h1) := fun q b hb => cH_ext hx3 q b (by rw [← St_eq S1]; exact hx2 q b hb)
        have hq9b : cH (aS 0) (wS 0) h1 q9 = some (bRef a9 b9) := (ov_n (ov_none hq3).1).trans hqb
        refine r_catch hq9b rfl [] _ [] rfl (fun _ h => by cases h) rfl (by decide) (lkA q430) (lkT q1055 rfl) ?_
        first | refine r_astore dX0_make_46 (Nat.le_of_ble_eq_true rfl) ?_ | refine r_astoreq dX0_make_46 (Nat.le_of_ble_eq_true rfl) ?_ | refine r_astoreN dX0_make_46 (Nat.le_of_ble_eq_true rfl) ?_
        first | refine r_aload_n dX0_make_48 rfl ?_ | refine r_aload_nq dX0_make_48 rfl ?_ | refine r_aload_nN dX0_make_48 rfl ?_
        first | refine r_aload dX0_make_49 rfl ?_ | refine r_aloadq dX0_make_49 rfl ?_ | refine r_aloadN dX0_make_49 rfl ?_
        refine r_invV dX0_make_51 (sp_X0_refused (hx4 _ _ hX) hq9b) rfl mo_X0_refused (Or.inl (hx4 _ _ hX)) rfl (lkA q1123) (lkA q1125) (lkA qs16) rfl (lkA q64) mp_X0_refused (Nat.le_of_ble_eq_true rfl) (Nat.le_of_ble_eq_true rfl) (Nat.le_of_ble_eq_true rfl) (kr_e ?_) kx_e
        exact r_ireturn dX0_make_54 rfl (by first | rfl | exact bi_nar) (by rw [hr9]; exact op_R hO hC hx4)
      obtain ⟨a9, w9, hr9, rfl, hP9⟩ := oQ_inl p9
      obtain ⟨hO2, hv2, hvD⟩ := op_mid hO hC hx2 f2 s2 hP9
      refine r_invV dX0_make_42 (sp_X0_changed hO2 hv2 hvD) rfl mo_X0_changed (Or.inl hO2.1) rfl (lkA q1082) (lkA q1084) (lkA qs13) rfl (lkA q64) mp_X0_changed (Nat.le_of_ble_eq_true rfl) (Nat.le_of_ble_eq_true rfl) (Nat.le_of_ble_eq_true rfl) (kr_r (fun v9 h9 p9 => ?_)) kx_r
      obtain ⟨rfl, hd', u', it', hch, rfl⟩ := p9
      exact r_ireturn dX0_make_45 rfl (by first | rfl | exact bi_nar) (by rw [hr9]; exact op_K2 hO hC hx2 i2 f2 s2 hP9 hch)
    · refine r_bipush (v := (-12)) dX0_make_20 rfl ?_
      exact r_ireturn dX0_make_22 rfl (by first | rfl | exact bi_nar) (by rw [show oMake (wS 0) x y = oC (-12) by unfold oMake; rw [if_pos (bi_n0.mp c4), if_neg (by rw [bi_0.mp c17]; decide)]]; exact op_C hO hC)
  · refine r_bipush (v := (-11)) dX0_make_7 rfl ?_
    exact r_ireturn dX0_make_9 rfl (by first | rfl | exact bi_nar) (by rw [show oMake (wS 0) x y = oC (-11) by unfold oMake; rw [if_neg (by rw [bi_0.mp c4]; decide)]]; exact op_C hO hC)

set_option maxHeartbeats 4000000 in
set_option maxRecDepth 100000 in
theorem sp_X0_take {G : GG} {h : HP} (hK : KS G) {X D R hd u : Nat} {aS : Nat → Nat → Nat} {wS : Nat → Nat → Int32} {sv : Bool} {rs dt : Int32} {tx la : Nat} (hO : CO X D R hd u aS sv rs dt tx la h) (hC : CS aS wS u sv h) {D9 : Int} (hI : Inv D9 (wS 0)) {x y z : Int32} : Ct G 12 3600 M_X0_take [.ref X, .int x, .int y, .int z] h (puQ X D R hd u aS wS sv rs dt tx la h (oTakes (wS 0) x y z)) := by
  refine ct_intro my_X0_take (Nat.le_of_ble_eq_true rfl) ?_
  have hX := hO.1
  have S0 := (hC.1 0 (Or.inl rfl)).1
  have I0 := (hC.1 0 (Or.inl rfl)).2
  obtain ⟨hw2, hw24, hw3, hw34, h6⟩ := inv_w hI
  first | refine r_aload_n dX0_take_0 rfl ?_ | refine r_aload_nq dX0_take_0 rfl ?_ | refine r_aload_nN dX0_take_0 rfl ?_
  refine r_getfield 0 0 dX0_take_1 rfl (Nat.le_of_ble_eq_true rfl) (lkA q404) (Or.inl rfl) (Or.inl hX) (by rfl) ?_
  refine r_iload_n dX0_take_4 rfl ?_
  refine r_invV dX0_take_5 (fl_e S0 (sp_X1_isSeller (h := h) I0 (x := x))) rfl mo_X1_isSeller (Or.inl (s_0 S0)) rfl (lkA q1161) (lkA q1162) (lkA q1163) rfl (lkA q65) mp_X1_isSeller (Nat.le_of_ble_eq_true rfl) (Nat.le_of_ble_eq_true rfl) (Nat.le_of_ble_eq_true rfl) (kr_e ?_) kx_e
  refine r_if_eq 18 dX0_take_8 rfl (fun c8 => ?_) (fun c8 => ?_)
  · refine r_bipush (v := (-11)) dX0_take_18 rfl ?_
    exact r_ireturn dX0_take_20 rfl (by first | rfl | exact bi_nar) (by rw [show oTakes (wS 0) x y z = oC (-11) by unfold oTakes; rw [if_neg (fun e => by rw [bi_0.mp c8] at e; exact absurd e.1 (by decide))]]; exact op_C hO hC)
  · refine r_iload_n dX0_take_11 rfl ?_
    refine r_invS dX0_take_12 (sp_X0_isBristle ) rfl mo_X0_isBristle (lkA q1146) (lkA q1147) (lkA q64) mp_X0_isBristle (Nat.le_of_ble_eq_true rfl) (Nat.le_of_ble_eq_true rfl) (Nat.le_of_ble_eq_true rfl) (kr_e ?_) kx_e
    refine r_if_ne 21 dX0_take_15 rfl (fun c15 => ?_) (fun c15 => ?_)
    · refine r_iload_n dX0_take_21 rfl ?_
      refine r_invS dX0_take_22 (sp_X0_areTaken ) rfl mo_X0_areTaken (lkA q1166) (lkA q1167) (lkA q64) mp_X0_areTaken (Nat.le_of_ble_eq_true rfl) (Nat.le_of_ble_eq_true rfl) (Nat.le_of_ble_eq_true rfl) (kr_e ?_) kx_e
      refine r_if_ne 31 dX0_take_25 rfl (fun c25 => ?_) (fun c25 => ?_)
      · first | refine r_aload_n dX0_take_31 rfl ?_ | refine r_aload_nq dX0_take_31 rfl ?_ | refine r_aload_nN dX0_take_31 rfl ?_
        refine r_getfield 0 0 dX0_take_32 rfl (Nat.le_of_ble_eq_true rfl) (lkA q404) (Or.inl rfl) (Or.inl hX) (by rfl) ?_
        refine r_invV dX0_take_35 (sp_X1_copy hK S0 I0 hw2 hw24 hw3 hw34 h6) rfl mo_X1_copy (Or.inl (s_0 S0)) rfl (lkA q434) (lkA q435) (lkA q436) rfl (lkA q65) mp_X1_copy (Nat.le_of_ble_eq_true rfl) (Nat.le_of_ble_eq_true rfl) (Nat.le_of_ble_eq_true rfl) (kr_r (fun v9 H1 p9 => ?_)) kx_r
        obtain ⟨ad2, rfl, i2, f2, s2, hx2⟩ := p9
        have S1 : St H1 (aS 0) (wS 0) := St_ext S0 hx2
        first | refine r_astore dX0_take_38 (Nat.le_of_ble_eq_true rfl) ?_ | refine r_astoreq dX0_take_38 (Nat.le_of_ble_eq_true rfl) ?_ | refine r_astoreN dX0_take_38 (Nat.le_of_ble_eq_true rfl) ?_
        first | refine r_aload_n dX0_take_40 rfl ?_ | refine r_aload_nq dX0_take_40 rfl ?_ | refine r_aload_nN dX0_take_40 rfl ?_
        first | refine r_aload dX0_take_41 rfl ?_ | refine r_aloadq dX0_take_41 rfl ?_ | refine r_aloadN dX0_take_41 rfl ?_
        first | refine r_aload_n dX0_take_43 rfl ?_ | refine r_aload_nq dX0_take_43 rfl ?_ | refine r_aload_nN dX0_take_43 rfl ?_
        refine r_getfield 0 0 dX0_take_44 rfl (Nat.le_of_ble_eq_true rfl) (lkA q404) (Or.inl rfl) (Or.inl (hx2 _ _ hX)) (by rfl) ?_
        refine r_iload_n dX0_take_47 rfl ?_
        refine r_iload_n dX0_take_48 rfl ?_
        refine r_iload_n dX0_take_49 rfl ?_
        refine r_invV dX0_take_50 (fl_o S1 (sp_X1_takes (h := H1) I0 hK (isS_of hI c8) (isB_of c15) (bi_n0.mp c25) (isTk_r (bi_n0.mp c25)) ((hI.2.2.2.2.2.1 (tn x) (isS_of hI c8).2.2.2).2.2.2 (tn y) (isB_of c15).2.2))) rfl mo_X1_takes (Or.inl (s_0 S1)) rfl (lkA q1169) (lkA q1170) (lkA q1171) rfl (lkA q65) mp_X1_takes (Nat.le_of_ble_eq_true rfl) (Nat.le_of_ble_eq_true rfl) (Nat.le_of_ble_eq_true rfl) (fun v9 h9 p9 => ?_) (fun q9 h9 ci9 fs9 p9 hq9 => ?_)
        rotate_left
        · obtain ⟨a9, b9, hr9, h1, hx3, hq3, hqb, rfl⟩ := oQ_inr p9
          have hx4 : Ext h (cH (aS 0) (wS 0) h1) := fun q b hb => cH_ext hx3 q b (by rw [← St_eq S1]; exact hx2 q b hb)
          have hq9b : cH (aS 0) (wS 0) h1 q9 = some (bRef a9 b9) := (ov_n (ov_none hq3).1).trans hqb
          refine r_catch hq9b rfl [] _ [] rfl (fun _ h => by cases h) rfl (by decide) (lkA q430) (lkT q1055 rfl) ?_
          first | refine r_astore dX0_take_57 (Nat.le_of_ble_eq_true rfl) ?_ | refine r_astoreq dX0_take_57 (Nat.le_of_ble_eq_true rfl) ?_ | refine r_astoreN dX0_take_57 (Nat.le_of_ble_eq_true rfl) ?_
          first | refine r_aload_n dX0_take_59 rfl ?_ | refine r_aload_nq dX0_take_59 rfl ?_ | refine r_aload_nN dX0_take_59 rfl ?_
          first | refine r_aload dX0_take_60 rfl ?_ | refine r_aloadq dX0_take_60 rfl ?_ | refine r_aloadN dX0_take_60 rfl ?_
          refine r_invV dX0_take_62 (sp_X0_refused (hx4 _ _ hX) hq9b) rfl mo_X0_refused (Or.inl (hx4 _ _ hX)) rfl (lkA q1123) (lkA q1125) (lkA qs16) rfl (lkA q64) mp_X0_refused (Nat.le_of_ble_eq_true rfl) (Nat.le_of_ble_eq_true rfl) (Nat.le_of_ble_eq_true rfl) (kr_e ?_) kx_e
          exact r_ireturn dX0_take_65 rfl (by first | rfl | exact bi_nar) (by rw [hr9]; exact op_R hO hC hx4)
        obtain ⟨a9, w9, hr9, rfl, hP9⟩ := oQ_inl p9
        obtain ⟨hO2, hv2, hvD⟩ := op_mid hO hC hx2 f2 s2 hP9
        refine r_invV dX0_take_53 (sp_X0_changed hO2 hv2 hvD) rfl mo_X0_changed (Or.inl hO2.1) rfl (lkA q1082) (lkA q1084) (lkA qs13) rfl (lkA q64) mp_X0_changed (Nat.le_of_ble_eq_true rfl) (Nat.le_of_ble_eq_true rfl) (Nat.le_of_ble_eq_true rfl) (kr_r (fun v9 h9 p9 => ?_)) kx_r
        obtain ⟨rfl, hd', u', it', hch, rfl⟩ := p9
        exact r_ireturn dX0_take_56 rfl (by first | rfl | exact bi_nar) (by rw [hr9]; exact op_K2 hO hC hx2 i2 f2 s2 hP9 hch)
      · refine r_bipush (v := (-12)) dX0_take_28 rfl ?_
        exact r_ireturn dX0_take_30 rfl (by first | rfl | exact bi_nar) (by rw [show oTakes (wS 0) x y z = oC (-12) by unfold oTakes; rw [if_pos ⟨bi_n0.mp c8, bi_n0.mp c15⟩, if_neg (by rw [bi_0.mp c25]; decide)]]; exact op_C hO hC)
    · refine r_bipush (v := (-11)) dX0_take_18 rfl ?_
      exact r_ireturn dX0_take_20 rfl (by first | rfl | exact bi_nar) (by rw [show oTakes (wS 0) x y z = oC (-11) by unfold oTakes; rw [if_neg (fun e => by rw [bi_0.mp c15] at e; exact absurd e.2 (by decide))]]; exact op_C hO hC)

set_option maxHeartbeats 4000000 in
set_option maxRecDepth 100000 in
theorem sp_X0_go {G : GG} {h : HP} (hK : KS G) {X D R hd u : Nat} {aS : Nat → Nat → Nat} {wS : Nat → Nat → Int32} {sv : Bool} {rs dt : Int32} {tx la : Nat} (hO : CO X D R hd u aS sv rs dt tx la h) (hC : CS aS wS u sv h) {D9 : Int} (hI : Inv D9 (wS 0)) {x y : Int32} : Ct G 12 3600 M_X0_go [.ref X, .int x, .int y] h (puQ X D R hd u aS wS sv rs dt tx la h (oGoes (wS 0) x y)) := by
  refine ct_intro my_X0_go (Nat.le_of_ble_eq_true rfl) ?_
  have hX := hO.1
  have S0 := (hC.1 0 (Or.inl rfl)).1
  have I0 := (hC.1 0 (Or.inl rfl)).2
  obtain ⟨hw2, hw24, hw3, hw34, h6⟩ := inv_w hI
  first | refine r_aload_n dX0_go_0 rfl ?_ | refine r_aload_nq dX0_go_0 rfl ?_ | refine r_aload_nN dX0_go_0 rfl ?_
  refine r_getfield 0 0 dX0_go_1 rfl (Nat.le_of_ble_eq_true rfl) (lkA q404) (Or.inl rfl) (Or.inl hX) (by rfl) ?_
  refine r_iload_n dX0_go_4 rfl ?_
  refine r_invV dX0_go_5 (fl_e S0 (sp_X1_isSeller (h := h) I0 (x := x))) rfl mo_X1_isSeller (Or.inl (s_0 S0)) rfl (lkA q1161) (lkA q1162) (lkA q1163) rfl (lkA q65) mp_X1_isSeller (Nat.le_of_ble_eq_true rfl) (Nat.le_of_ble_eq_true rfl) (Nat.le_of_ble_eq_true rfl) (kr_e ?_) kx_e
  refine r_if_eq 18 dX0_go_8 rfl (fun c8 => ?_) (fun c8 => ?_)
  · refine r_bipush (v := (-11)) dX0_go_18 rfl ?_
    exact r_ireturn dX0_go_20 rfl (by first | rfl | exact bi_nar) (by rw [show oGoes (wS 0) x y = oC (-11) by unfold oGoes; rw [if_neg (fun e => by rw [bi_0.mp c8] at e; exact absurd e.1 (by decide))]]; exact op_C hO hC)
  · refine r_iload_n dX0_go_11 rfl ?_
    refine r_invS dX0_go_12 (sp_X0_isHouse ) rfl mo_X0_isHouse (lkA q1131) (lkA q1132) (lkA q64) mp_X0_isHouse (Nat.le_of_ble_eq_true rfl) (Nat.le_of_ble_eq_true rfl) (Nat.le_of_ble_eq_true rfl) (kr_e ?_) kx_e
    refine r_if_ne 21 dX0_go_15 rfl (fun c15 => ?_) (fun c15 => ?_)
    · first | refine r_aload_n dX0_go_21 rfl ?_ | refine r_aload_nq dX0_go_21 rfl ?_ | refine r_aload_nN dX0_go_21 rfl ?_
      refine r_getfield 0 0 dX0_go_22 rfl (Nat.le_of_ble_eq_true rfl) (lkA q404) (Or.inl rfl) (Or.inl hX) (by rfl) ?_
      refine r_invV dX0_go_25 (sp_X1_copy hK S0 I0 hw2 hw24 hw3 hw34 h6) rfl mo_X1_copy (Or.inl (s_0 S0)) rfl (lkA q434) (lkA q435) (lkA q436) rfl (lkA q65) mp_X1_copy (Nat.le_of_ble_eq_true rfl) (Nat.le_of_ble_eq_true rfl) (Nat.le_of_ble_eq_true rfl) (kr_r (fun v9 H1 p9 => ?_)) kx_r
      obtain ⟨ad2, rfl, i2, f2, s2, hx2⟩ := p9
      have S1 : St H1 (aS 0) (wS 0) := St_ext S0 hx2
      first | refine r_astore_n dX0_go_28 (Nat.le_of_ble_eq_true rfl) ?_ | refine r_astore_nq dX0_go_28 (Nat.le_of_ble_eq_true rfl) ?_ | refine r_astore_nN dX0_go_28 (Nat.le_of_ble_eq_true rfl) ?_
      first | refine r_aload_n dX0_go_29 rfl ?_ | refine r_aload_nq dX0_go_29 rfl ?_ | refine r_aload_nN dX0_go_29 rfl ?_
      first | refine r_aload_n dX0_go_30 rfl ?_ | refine r_aload_nq dX0_go_30 rfl ?_ | refine r_aload_nN dX0_go_30 rfl ?_
      first | refine r_aload_n dX0_go_31 rfl ?_ | refine r_aload_nq dX0_go_31 rfl ?_ | refine r_aload_nN dX0_go_31 rfl ?_
      refine r_getfield 0 0 dX0_go_32 rfl (Nat.le_of_ble_eq_true rfl) (lkA q404) (Or.inl rfl) (Or.inl (hx2 _ _ hX)) (by rfl) ?_
      refine r_iload_n dX0_go_35 rfl ?_
      refine r_iload_n dX0_go_36 rfl ?_
      refine r_invV dX0_go_37 (fl_o S1 (sp_X1_goes (h := H1) I0 hK (isS_of hI c8) (isH_of c15) (hI.2.2.2.2.2.1 (tn x) (isS_of hI c8).2.2.2).2.1 hI.2.1)) rfl mo_X1_goes (Or.inl (s_0 S1)) rfl (lkA q1254) (lkA q1255) (lkA q1256) rfl (lkA q65) mp_X1_goes (Nat.le_of_ble_eq_true rfl) (Nat.le_of_ble_eq_true rfl) (Nat.le_of_ble_eq_true rfl) (fun v9 h9 p9 => ?_) (fun q9 h9 ci9 fs9 p9 hq9 => ?_)
      rotate_left
      · obtain ⟨a9, b9, hr9, h1, hx3, hq3, hqb, rfl⟩ := oQ_inr p9
        have hx4 : Ext h (cH (aS 0) (wS 0) h1) := fun q b hb => cH_ext hx3 q b (by rw [← St_eq S1]; exact hx2 q b hb)
        have hq9b : cH (aS 0) (wS 0) h1 q9 = some (bRef a9 b9) := (ov_n (ov_none hq3).1).trans hqb
        refine r_catch hq9b rfl [] _ [] rfl (fun _ h => by cases h) rfl (by decide) (lkA q430) (lkT q1055 rfl) ?_
        first | refine r_astore dX0_go_44 (Nat.le_of_ble_eq_true rfl) ?_ | refine r_astoreq dX0_go_44 (Nat.le_of_ble_eq_true rfl) ?_ | refine r_astoreN dX0_go_44 (Nat.le_of_ble_eq_true rfl) ?_
        first | refine r_aload_n dX0_go_46 rfl ?_ | refine r_aload_nq dX0_go_46 rfl ?_ | refine r_aload_nN dX0_go_46 rfl ?_
        first | refine r_aload dX0_go_47 rfl ?_ | refine r_aloadq dX0_go_47 rfl ?_ | refine r_aloadN dX0_go_47 rfl ?_
        refine r_invV dX0_go_49 (sp_X0_refused (hx4 _ _ hX) hq9b) rfl mo_X0_refused (Or.inl (hx4 _ _ hX)) rfl (lkA q1123) (lkA q1125) (lkA qs16) rfl (lkA q64) mp_X0_refused (Nat.le_of_ble_eq_true rfl) (Nat.le_of_ble_eq_true rfl) (Nat.le_of_ble_eq_true rfl) (kr_e ?_) kx_e
        exact r_ireturn dX0_go_52 rfl (by first | rfl | exact bi_nar) (by rw [hr9]; exact op_R hO hC hx4)
      obtain ⟨a9, w9, hr9, rfl, hP9⟩ := oQ_inl p9
      obtain ⟨hO2, hv2, hvD⟩ := op_mid hO hC hx2 f2 s2 hP9
      refine r_invV dX0_go_40 (sp_X0_changed hO2 hv2 hvD) rfl mo_X0_changed (Or.inl hO2.1) rfl (lkA q1082) (lkA q1084) (lkA qs13) rfl (lkA q64) mp_X0_changed (Nat.le_of_ble_eq_true rfl) (Nat.le_of_ble_eq_true rfl) (Nat.le_of_ble_eq_true rfl) (kr_r (fun v9 h9 p9 => ?_)) kx_r
      obtain ⟨rfl, hd', u', it', hch, rfl⟩ := p9
      exact r_ireturn dX0_go_43 rfl (by first | rfl | exact bi_nar) (by rw [hr9]; exact op_K2 hO hC hx2 i2 f2 s2 hP9 hch)
    · refine r_bipush (v := (-11)) dX0_go_18 rfl ?_
      exact r_ireturn dX0_go_20 rfl (by first | rfl | exact bi_nar) (by rw [show oGoes (wS 0) x y = oC (-11) by unfold oGoes; rw [if_neg (fun e => by rw [bi_0.mp c15] at e; exact absurd e.2 (by decide))]]; exact op_C hO hC)

set_option maxHeartbeats 4000000 in
set_option maxRecDepth 100000 in
theorem sp_X0_soles {G : GG} {h : HP} (hK : KS G) {X D R hd u : Nat} {aS : Nat → Nat → Nat} {wS : Nat → Nat → Int32} {sv : Bool} {rs dt : Int32} {tx la : Nat} (hO : CO X D R hd u aS sv rs dt tx la h) (hC : CS aS wS u sv h) {D9 : Int} (hI : Inv D9 (wS 0)) {x : Int32} : Ct G 12 3600 M_X0_soles [.ref X, .int x] h (puQ X D R hd u aS wS sv rs dt tx la h (oRenews (wS 0) x)) := by
  refine ct_intro my_X0_soles (Nat.le_of_ble_eq_true rfl) ?_
  have hX := hO.1
  have S0 := (hC.1 0 (Or.inl rfl)).1
  have I0 := (hC.1 0 (Or.inl rfl)).2
  obtain ⟨hw2, hw24, hw3, hw34, h6⟩ := inv_w hI
  first | refine r_aload_n dX0_soles_0 rfl ?_ | refine r_aload_nq dX0_soles_0 rfl ?_ | refine r_aload_nN dX0_soles_0 rfl ?_
  refine r_getfield 0 0 dX0_soles_1 rfl (Nat.le_of_ble_eq_true rfl) (lkA q404) (Or.inl rfl) (Or.inl hX) (by rfl) ?_
  refine r_iload_n dX0_soles_4 rfl ?_
  refine r_invV dX0_soles_5 (fl_e S0 (sp_X1_isSeller (h := h) I0 (x := x))) rfl mo_X1_isSeller (Or.inl (s_0 S0)) rfl (lkA q1161) (lkA q1162) (lkA q1163) rfl (lkA q65) mp_X1_isSeller (Nat.le_of_ble_eq_true rfl) (Nat.le_of_ble_eq_true rfl) (Nat.le_of_ble_eq_true rfl) (kr_e ?_) kx_e
  refine r_if_ne 14 dX0_soles_8 rfl (fun c8 => ?_) (fun c8 => ?_)
  · first | refine r_aload_n dX0_soles_14 rfl ?_ | refine r_aload_nq dX0_soles_14 rfl ?_ | refine r_aload_nN dX0_soles_14 rfl ?_
    refine r_getfield 0 0 dX0_soles_15 rfl (Nat.le_of_ble_eq_true rfl) (lkA q404) (Or.inl rfl) (Or.inl hX) (by rfl) ?_
    refine r_invV dX0_soles_18 (sp_X1_copy hK S0 I0 hw2 hw24 hw3 hw34 h6) rfl mo_X1_copy (Or.inl (s_0 S0)) rfl (lkA q434) (lkA q435) (lkA q436) rfl (lkA q65) mp_X1_copy (Nat.le_of_ble_eq_true rfl) (Nat.le_of_ble_eq_true rfl) (Nat.le_of_ble_eq_true rfl) (kr_r (fun v9 H1 p9 => ?_)) kx_r
    obtain ⟨ad2, rfl, i2, f2, s2, hx2⟩ := p9
    have S1 : St H1 (aS 0) (wS 0) := St_ext S0 hx2
    first | refine r_astore_n dX0_soles_21 (Nat.le_of_ble_eq_true rfl) ?_ | refine r_astore_nq dX0_soles_21 (Nat.le_of_ble_eq_true rfl) ?_ | refine r_astore_nN dX0_soles_21 (Nat.le_of_ble_eq_true rfl) ?_
    first | refine r_aload_n dX0_soles_22 rfl ?_ | refine r_aload_nq dX0_soles_22 rfl ?_ | refine r_aload_nN dX0_soles_22 rfl ?_
    first | refine r_aload_n dX0_soles_23 rfl ?_ | refine r_aload_nq dX0_soles_23 rfl ?_ | refine r_aload_nN dX0_soles_23 rfl ?_
    first | refine r_aload_n dX0_soles_24 rfl ?_ | refine r_aload_nq dX0_soles_24 rfl ?_ | refine r_aload_nN dX0_soles_24 rfl ?_
    refine r_getfield 0 0 dX0_soles_25 rfl (Nat.le_of_ble_eq_true rfl) (lkA q404) (Or.inl rfl) (Or.inl (hx2 _ _ hX)) (by rfl) ?_
    refine r_iload_n dX0_soles_28 rfl ?_
    refine r_invV dX0_soles_29 (fl_o S1 (sp_X1_soles (h := H1) I0 hK (isS_of hI c8))) rfl mo_X1_soles (Or.inl (s_0 S1)) rfl (lkA q1286) (lkA q1287) (lkA q1288) rfl (lkA q65) mp_X1_soles (Nat.le_of_ble_eq_true rfl) (Nat.le_of_ble_eq_true rfl) (Nat.le_of_ble_eq_true rfl) (fun v9 h9 p9 => ?_) (fun q9 h9 ci9 fs9 p9 hq9 => ?_)
    rotate_left
    · obtain ⟨a9, b9, hr9, h1, hx3, hq3, hqb, rfl⟩ := oQ_inr p9
      have hx4 : Ext h (cH (aS 0) (wS 0) h1) := fun q b hb => cH_ext hx3 q b (by rw [← St_eq S1]; exact hx2 q b hb)
      have hq9b : cH (aS 0) (wS 0) h1 q9 = some (bRef a9 b9) := (ov_n (ov_none hq3).1).trans hqb
      refine r_catch hq9b rfl [] _ [] rfl (fun _ h => by cases h) rfl (by decide) (lkA q430) (lkT q1055 rfl) ?_
      first | refine r_astore_n dX0_soles_36 (Nat.le_of_ble_eq_true rfl) ?_ | refine r_astore_nq dX0_soles_36 (Nat.le_of_ble_eq_true rfl) ?_ | refine r_astore_nN dX0_soles_36 (Nat.le_of_ble_eq_true rfl) ?_
      first | refine r_aload_n dX0_soles_37 rfl ?_ | refine r_aload_nq dX0_soles_37 rfl ?_ | refine r_aload_nN dX0_soles_37 rfl ?_
      first | refine r_aload_n dX0_soles_38 rfl ?_ | refine r_aload_nq dX0_soles_38 rfl ?_ | refine r_aload_nN dX0_soles_38 rfl ?_
      refine r_invV dX0_soles_39 (sp_X0_refused (hx4 _ _ hX) hq9b) rfl mo_X0_refused (Or.inl (hx4 _ _ hX)) rfl (lkA q1123) (lkA q1125) (lkA qs16) rfl (lkA q64) mp_X0_refused (Nat.le_of_ble_eq_true rfl) (Nat.le_of_ble_eq_true rfl) (Nat.le_of_ble_eq_true rfl) (kr_e ?_) kx_e
      exact r_ireturn dX0_soles_42 rfl (by first | rfl | exact bi_nar) (by rw [hr9]; exact op_R hO hC hx4)
    obtain ⟨a9, w9, hr9, rfl, hP9⟩ := oQ_inl p9
    obtain ⟨hO2, hv2, hvD⟩ := op_mid hO hC hx2 f2 s2 hP9
    refine r_invV dX0_soles_32 (sp_X0_changed hO2 hv2 hvD) rfl mo_X0_changed (Or.inl hO2.1) rfl (lkA q1082) (lkA q1084) (lkA qs13) rfl (lkA q64) mp_X0_changed (Nat.le_of_ble_eq_true rfl) (Nat.le_of_ble_eq_true rfl) (Nat.le_of_ble_eq_true rfl) (kr_r (fun v9 h9 p9 => ?_)) kx_r
    obtain ⟨rfl, hd', u', it', hch, rfl⟩ := p9
    exact r_ireturn dX0_soles_35 rfl (by first | rfl | exact bi_nar) (by rw [hr9]; exact op_K2 hO hC hx2 i2 f2 s2 hP9 hch)
  · refine r_bipush (v := (-11)) dX0_soles_11 rfl ?_
    exact r_ireturn dX0_soles_13 rfl (by first | rfl | exact bi_nar) (by rw [show oRenews (wS 0) x = oC (-11) by unfold oRenews; rw [if_neg (by rw [bi_0.mp c8]; decide)]]; exact op_C hO hC)

set_option maxHeartbeats 4000000 in
set_option maxRecDepth 100000 in
theorem sp_X0_pet {G : GG} {h : HP} (hK : KS G) {X D R hd u : Nat} {aS : Nat → Nat → Nat} {wS : Nat → Nat → Int32} {sv : Bool} {rs dt : Int32} {tx la : Nat} (hO : CO X D R hd u aS sv rs dt tx la h) (hC : CS aS wS u sv h) {D9 : Int} (hI : Inv D9 (wS 0)) {x : Int32} : Ct G 12 3600 M_X0_pet [.ref X, .int x] h (puQ X D R hd u aS wS sv rs dt tx la h (oPets (wS 0) x)) := by
  refine ct_intro my_X0_pet (Nat.le_of_ble_eq_true rfl) ?_
  have hX := hO.1
  have S0 := (hC.1 0 (Or.inl rfl)).1
  have I0 := (hC.1 0 (Or.inl rfl)).2
  obtain ⟨hw2, hw24, hw3, hw34, h6⟩ := inv_w hI
  first | refine r_aload_n dX0_pet_0 rfl ?_ | refine r_aload_nq dX0_pet_0 rfl ?_ | refine r_aload_nN dX0_pet_0 rfl ?_
  refine r_getfield 0 0 dX0_pet_1 rfl (Nat.le_of_ble_eq_true rfl) (lkA q404) (Or.inl rfl) (Or.inl hX) (by rfl) ?_
  refine r_iload_n dX0_pet_4 rfl ?_
  refine r_invV dX0_pet_5 (fl_e S0 (sp_X1_isSeller (h := h) I0 (x := x))) rfl mo_X1_isSeller (Or.inl (s_0 S0)) rfl (lkA q1161) (lkA q1162) (lkA q1163) rfl (lkA q65) mp_X1_isSeller (Nat.le_of_ble_eq_true rfl) (Nat.le_of_ble_eq_true rfl) (Nat.le_of_ble_eq_true rfl) (kr_e ?_) kx_e
  refine r_if_ne 14 dX0_pet_8 rfl (fun c8 => ?_) (fun c8 => ?_)
  · first | refine r_aload_n dX0_pet_14 rfl ?_ | refine r_aload_nq dX0_pet_14 rfl ?_ | refine r_aload_nN dX0_pet_14 rfl ?_
    refine r_getfield 0 0 dX0_pet_15 rfl (Nat.le_of_ble_eq_true rfl) (lkA q404) (Or.inl rfl) (Or.inl hX) (by rfl) ?_
    refine r_invV dX0_pet_18 (sp_X1_copy hK S0 I0 hw2 hw24 hw3 hw34 h6) rfl mo_X1_copy (Or.inl (s_0 S0)) rfl (lkA q434) (lkA q435) (lkA q436) rfl (lkA q65) mp_X1_copy (Nat.le_of_ble_eq_true rfl) (Nat.le_of_ble_eq_true rfl) (Nat.le_of_ble_eq_true rfl) (kr_r (fun v9 H1 p9 => ?_)) kx_r
    obtain ⟨ad2, rfl, i2, f2, s2, hx2⟩ := p9
    have S1 : St H1 (aS 0) (wS 0) := St_ext S0 hx2
    first | refine r_astore_n dX0_pet_21 (Nat.le_of_ble_eq_true rfl) ?_ | refine r_astore_nq dX0_pet_21 (Nat.le_of_ble_eq_true rfl) ?_ | refine r_astore_nN dX0_pet_21 (Nat.le_of_ble_eq_true rfl) ?_
    first | refine r_aload_n dX0_pet_22 rfl ?_ | refine r_aload_nq dX0_pet_22 rfl ?_ | refine r_aload_nN dX0_pet_22 rfl ?_
    first | refine r_aload_n dX0_pet_23 rfl ?_ | refine r_aload_nq dX0_pet_23 rfl ?_ | refine r_aload_nN dX0_pet_23 rfl ?_
    first | refine r_aload_n dX0_pet_24 rfl ?_ | refine r_aload_nq dX0_pet_24 rfl ?_ | refine r_aload_nN dX0_pet_24 rfl ?_
    refine r_getfield 0 0 dX0_pet_25 rfl (Nat.le_of_ble_eq_true rfl) (lkA q404) (Or.inl rfl) (Or.inl (hx2 _ _ hX)) (by rfl) ?_
    refine r_iload_n dX0_pet_28 rfl ?_
    refine r_invV dX0_pet_29 (fl_o S1 (sp_X1_pets (h := H1) I0 hK (isS_of hI c8) (tn (wS 0 (17 + 9 * tn x + 1))) (tn_g (hI.2.2.2.2.2.1 (tn x) (isS_of hI c8).2.2.2).2.1).1 (tn_g (hI.2.2.2.2.2.1 (tn x) (isS_of hI c8).2.2.2).2.1).2 (inv_md hI (tn_g (hI.2.2.2.2.2.1 (tn x) (isS_of hI c8).2.2.2).2.1).2))) rfl mo_X1_pets (Or.inl (s_0 S1)) rfl (lkA q1294) (lkA q1295) (lkA q1296) rfl (lkA q65) mp_X1_pets (Nat.le_of_ble_eq_true rfl) (Nat.le_of_ble_eq_true rfl) (Nat.le_of_ble_eq_true rfl) (fun v9 h9 p9 => ?_) (fun q9 h9 ci9 fs9 p9 hq9 => ?_)
    rotate_left
    · obtain ⟨a9, b9, hr9, h1, hx3, hq3, hqb, rfl⟩ := oQ_inr p9
      have hx4 : Ext h (cH (aS 0) (wS 0) h1) := fun q b hb => cH_ext hx3 q b (by rw [← St_eq S1]; exact hx2 q b hb)
      have hq9b : cH (aS 0) (wS 0) h1 q9 = some (bRef a9 b9) := (ov_n (ov_none hq3).1).trans hqb
      refine r_catch hq9b rfl [] _ [] rfl (fun _ h => by cases h) rfl (by decide) (lkA q430) (lkT q1055 rfl) ?_
      first | refine r_astore_n dX0_pet_36 (Nat.le_of_ble_eq_true rfl) ?_ | refine r_astore_nq dX0_pet_36 (Nat.le_of_ble_eq_true rfl) ?_ | refine r_astore_nN dX0_pet_36 (Nat.le_of_ble_eq_true rfl) ?_
      first | refine r_aload_n dX0_pet_37 rfl ?_ | refine r_aload_nq dX0_pet_37 rfl ?_ | refine r_aload_nN dX0_pet_37 rfl ?_
      first | refine r_aload_n dX0_pet_38 rfl ?_ | refine r_aload_nq dX0_pet_38 rfl ?_ | refine r_aload_nN dX0_pet_38 rfl ?_
      refine r_invV dX0_pet_39 (sp_X0_refused (hx4 _ _ hX) hq9b) rfl mo_X0_refused (Or.inl (hx4 _ _ hX)) rfl (lkA q1123) (lkA q1125) (lkA qs16) rfl (lkA q64) mp_X0_refused (Nat.le_of_ble_eq_true rfl) (Nat.le_of_ble_eq_true rfl) (Nat.le_of_ble_eq_true rfl) (kr_e ?_) kx_e
      exact r_ireturn dX0_pet_42 rfl (by first | rfl | exact bi_nar) (by rw [hr9]; exact op_R hO hC hx4)
    obtain ⟨a9, w9, hr9, rfl, hP9⟩ := oQ_inl p9
    obtain ⟨hO2, hv2, hvD⟩ := op_mid hO hC hx2 f2 s2 hP9
    refine r_invV dX0_pet_32 (sp_X0_changed hO2 hv2 hvD) rfl mo_X0_changed (Or.inl hO2.1) rfl (lkA q1082) (lkA q1084) (lkA qs13) rfl (lkA q64) mp_X0_changed (Nat.le_of_ble_eq_true rfl) (Nat.le_of_ble_eq_true rfl) (Nat.le_of_ble_eq_true rfl) (kr_r (fun v9 h9 p9 => ?_)) kx_r
    obtain ⟨rfl, hd', u', it', hch, rfl⟩ := p9
    exact r_ireturn dX0_pet_35 rfl (by first | rfl | exact bi_nar) (by rw [hr9]; exact op_K2 hO hC hx2 i2 f2 s2 hP9 hch)
  · refine r_bipush (v := (-11)) dX0_pet_11 rfl ?_
    exact r_ireturn dX0_pet_13 rfl (by first | rfl | exact bi_nar) (by rw [show oPets (wS 0) x = oC (-11) by unfold oPets; rw [if_neg (by rw [bi_0.mp c8]; decide)]]; exact op_C hO hC)

set_option maxHeartbeats 4000000 in
set_option maxRecDepth 100000 in
theorem sp_X0_ring {G : GG} {h : HP} (hK : KS G) {X D R hd u : Nat} {aS : Nat → Nat → Nat} {wS : Nat → Nat → Int32} {sv : Bool} {rs dt : Int32} {tx la : Nat} (hO : CO X D R hd u aS sv rs dt tx la h) (hC : CS aS wS u sv h) {D9 : Int} (hI : Inv D9 (wS 0)) {x y z : Int32} : Ct G 12 3600 M_X0_ring [.ref X, .int x, .int y, .int z] h (puQ X D R hd u aS wS sv rs dt tx la h (oRings (wS 0) x y z)) := by
  refine ct_intro my_X0_ring (Nat.le_of_ble_eq_true rfl) ?_
  have hX := hO.1
  have S0 := (hC.1 0 (Or.inl rfl)).1
  have I0 := (hC.1 0 (Or.inl rfl)).2
  obtain ⟨hw2, hw24, hw3, hw34, h6⟩ := inv_w hI
  first | refine r_aload_n dX0_ring_0 rfl ?_ | refine r_aload_nq dX0_ring_0 rfl ?_ | refine r_aload_nN dX0_ring_0 rfl ?_
  refine r_getfield 0 0 dX0_ring_1 rfl (Nat.le_of_ble_eq_true rfl) (lkA q404) (Or.inl rfl) (Or.inl hX) (by rfl) ?_
  refine r_iload_n dX0_ring_4 rfl ?_
  refine r_invV dX0_ring_5 (fl_e S0 (sp_X1_isSeller (h := h) I0 (x := x))) rfl mo_X1_isSeller (Or.inl (s_0 S0)) rfl (lkA q1161) (lkA q1162) (lkA q1163) rfl (lkA q65) mp_X1_isSeller (Nat.le_of_ble_eq_true rfl) (Nat.le_of_ble_eq_true rfl) (Nat.le_of_ble_eq_true rfl) (kr_e ?_) kx_e
  refine r_if_eq 18 dX0_ring_8 rfl (fun c8 => ?_) (fun c8 => ?_)
  · refine r_bipush (v := (-11)) dX0_ring_18 rfl ?_
    exact r_ireturn dX0_ring_20 rfl (by first | rfl | exact bi_nar) (by rw [show oRings (wS 0) x y z = oC (-11) by unfold oRings; rw [if_neg (fun e => by rw [bi_0.mp c8] at e; exact absurd e.1 (by decide))]]; exact op_C hO hC)
  · refine r_iload_n dX0_ring_11 rfl ?_
    refine r_invS dX0_ring_12 (sp_X0_isBristle ) rfl mo_X0_isBristle (lkA q1146) (lkA q1147) (lkA q64) mp_X0_isBristle (Nat.le_of_ble_eq_true rfl) (Nat.le_of_ble_eq_true rfl) (Nat.le_of_ble_eq_true rfl) (kr_e ?_) kx_e
    refine r_if_ne 21 dX0_ring_15 rfl (fun c15 => ?_) (fun c15 => ?_)
    · refine r_iload_n dX0_ring_21 rfl ?_
      refine r_invS dX0_ring_22 (sp_X0_isPrice ) rfl mo_X0_isPrice (lkA q1323) (lkA q1324) (lkA q64) mp_X0_isPrice (Nat.le_of_ble_eq_true rfl) (Nat.le_of_ble_eq_true rfl) (Nat.le_of_ble_eq_true rfl) (kr_e ?_) kx_e
      refine r_if_ne 31 dX0_ring_25 rfl (fun c25 => ?_) (fun c25 => ?_)
      · first | refine r_aload_n dX0_ring_31 rfl ?_ | refine r_aload_nq dX0_ring_31 rfl ?_ | refine r_aload_nN dX0_ring_31 rfl ?_
        refine r_getfield 0 0 dX0_ring_32 rfl (Nat.le_of_ble_eq_true rfl) (lkA q404) (Or.inl rfl) (Or.inl hX) (by rfl) ?_
        refine r_invV dX0_ring_35 (sp_X1_copy hK S0 I0 hw2 hw24 hw3 hw34 h6) rfl mo_X1_copy (Or.inl (s_0 S0)) rfl (lkA q434) (lkA q435) (lkA q436) rfl (lkA q65) mp_X1_copy (Nat.le_of_ble_eq_true rfl) (Nat.le_of_ble_eq_true rfl) (Nat.le_of_ble_eq_true rfl) (kr_r (fun v9 H1 p9 => ?_)) kx_r
        obtain ⟨ad2, rfl, i2, f2, s2, hx2⟩ := p9
        have S1 : St H1 (aS 0) (wS 0) := St_ext S0 hx2
        first | refine r_astore dX0_ring_38 (Nat.le_of_ble_eq_true rfl) ?_ | refine r_astoreq dX0_ring_38 (Nat.le_of_ble_eq_true rfl) ?_ | refine r_astoreN dX0_ring_38 (Nat.le_of_ble_eq_true rfl) ?_
        first | refine r_aload_n dX0_ring_40 rfl ?_ | refine r_aload_nq dX0_ring_40 rfl ?_ | refine r_aload_nN dX0_ring_40 rfl ?_
        first | refine r_aload dX0_ring_41 rfl ?_ | refine r_aloadq dX0_ring_41 rfl ?_ | refine r_aloadN dX0_ring_41 rfl ?_
        first | refine r_aload_n dX0_ring_43 rfl ?_ | refine r_aload_nq dX0_ring_43 rfl ?_ | refine r_aload_nN dX0_ring_43 rfl ?_
        refine r_getfield 0 0 dX0_ring_44 rfl (Nat.le_of_ble_eq_true rfl) (lkA q404) (Or.inl rfl) (Or.inl (hx2 _ _ hX)) (by rfl) ?_
        refine r_iload_n dX0_ring_47 rfl ?_
        refine r_iload_n dX0_ring_48 rfl ?_
        refine r_iload_n dX0_ring_49 rfl ?_
        refine r_invV dX0_ring_50 (fl_o S1 (ring_y (isB_of c15).2.1 (sp_X1_rings (h := H1) I0 hK (z := z) (isS_of hI c8) (tn y) (isB_of c15).2.2 (by rw [← i32_of (isB_of c15).2.1]; exact (isB_of c15).1) (bi_n0.mp c25) (tn (wS 0 (17 + 9 * tn x + 1))) (tn_g (hI.2.2.2.2.2.1 (tn x) (isS_of hI c8).2.2.2).2.1).1 (tn_g (hI.2.2.2.2.2.1 (tn x) (isS_of hI c8).2.2.2).2.1).2 hI.2.1 ((hI.2.2.2.2.2.1 (tn x) (isS_of hI c8).2.2.2).2.2.2 (tn y) (isB_of c15).2.2).1 (hI.2.2.2.2.2.2.1 _ (tn_g (hI.2.2.2.2.2.1 (tn x) (isS_of hI c8).2.2.2).2.1).2).2.2 hw24 hw3 hw34))) rfl mo_X1_rings (Or.inl (s_0 S1)) rfl (lkA q1358) (lkA q1359) (lkA q1360) rfl (lkA q65) mp_X1_rings (Nat.le_of_ble_eq_true rfl) (Nat.le_of_ble_eq_true rfl) (Nat.le_of_ble_eq_true rfl) (fun v9 h9 p9 => ?_) (fun q9 h9 ci9 fs9 p9 hq9 => ?_)
        rotate_left
        · obtain ⟨a9, b9, hr9, h1, hx3, hq3, hqb, rfl⟩ := oQ_inr p9
          have hx4 : Ext h (cH (aS 0) (wS 0) h1) := fun q b hb => cH_ext hx3 q b (by rw [← St_eq S1]; exact hx2 q b hb)
          have hq9b : cH (aS 0) (wS 0) h1 q9 = some (bRef a9 b9) := (ov_n (ov_none hq3).1).trans hqb
          refine r_catch hq9b rfl [] _ [] rfl (fun _ h => by cases h) rfl (by decide) (lkA q430) (lkT q1055 rfl) ?_
          first | refine r_astore dX0_ring_57 (Nat.le_of_ble_eq_true rfl) ?_ | refine r_astoreq dX0_ring_57 (Nat.le_of_ble_eq_true rfl) ?_ | refine r_astoreN dX0_ring_57 (Nat.le_of_ble_eq_true rfl) ?_
          first | refine r_aload_n dX0_ring_59 rfl ?_ | refine r_aload_nq dX0_ring_59 rfl ?_ | refine r_aload_nN dX0_ring_59 rfl ?_
          first | refine r_aload dX0_ring_60 rfl ?_ | refine r_aloadq dX0_ring_60 rfl ?_ | refine r_aloadN dX0_ring_60 rfl ?_
          refine r_invV dX0_ring_62 (sp_X0_refused (hx4 _ _ hX) hq9b) rfl mo_X0_refused (Or.inl (hx4 _ _ hX)) rfl (lkA q1123) (lkA q1125) (lkA qs16) rfl (lkA q64) mp_X0_refused (Nat.le_of_ble_eq_true rfl) (Nat.le_of_ble_eq_true rfl) (Nat.le_of_ble_eq_true rfl) (kr_e ?_) kx_e
          exact r_ireturn dX0_ring_65 rfl (by first | rfl | exact bi_nar) (by rw [hr9]; exact op_R hO hC hx4)
        obtain ⟨a9, w9, hr9, rfl, hP9⟩ := oQ_inl p9
        obtain ⟨hO2, hv2, hvD⟩ := op_mid hO hC hx2 f2 s2 hP9
        refine r_invV dX0_ring_53 (sp_X0_changed hO2 hv2 hvD) rfl mo_X0_changed (Or.inl hO2.1) rfl (lkA q1082) (lkA q1084) (lkA qs13) rfl (lkA q64) mp_X0_changed (Nat.le_of_ble_eq_true rfl) (Nat.le_of_ble_eq_true rfl) (Nat.le_of_ble_eq_true rfl) (kr_r (fun v9 h9 p9 => ?_)) kx_r
        obtain ⟨rfl, hd', u', it', hch, rfl⟩ := p9
        exact r_ireturn dX0_ring_56 rfl (by first | rfl | exact bi_nar) (by rw [hr9]; exact op_K2 hO hC hx2 i2 f2 s2 hP9 hch)
      · refine r_bipush (v := (-12)) dX0_ring_28 rfl ?_
        exact r_ireturn dX0_ring_30 rfl (by first | rfl | exact bi_nar) (by rw [show oRings (wS 0) x y z = oC (-12) by unfold oRings; rw [if_pos ⟨bi_n0.mp c8, bi_n0.mp c15⟩, if_neg (by rw [bi_0.mp c25]; decide)]]; exact op_C hO hC)
    · refine r_bipush (v := (-11)) dX0_ring_18 rfl ?_
      exact r_ireturn dX0_ring_20 rfl (by first | rfl | exact bi_nar) (by rw [show oRings (wS 0) x y z = oC (-11) by unfold oRings; rw [if_neg (fun e => by rw [bi_0.mp c15] at e; exact absurd e.2 (by decide))]]; exact op_C hO hC)

set_option maxHeartbeats 4000000 in
set_option maxRecDepth 100000 in
theorem sp_X0_back {G : GG} {h : HP} (hK : KS G) {X D R hd u : Nat} {aS : Nat → Nat → Nat} {wS : Nat → Nat → Int32} {sv : Bool} {rs dt : Int32} {tx la : Nat} (hO : CO X D R hd u aS sv rs dt tx la h) (hC : CS aS wS u sv h) {D9 : Int} (hI : Inv D9 (wS 0)) {x : Int32} : Ct G 12 3600 M_X0_back [.ref X, .int x] h (puQ X D R hd u aS wS sv rs dt tx la h (oBack (wS 0) x)) := by
  refine ct_intro my_X0_back (Nat.le_of_ble_eq_true rfl) ?_
  have hX := hO.1
  have S0 := (hC.1 0 (Or.inl rfl)).1
  have I0 := (hC.1 0 (Or.inl rfl)).2
  obtain ⟨hw2, hw24, hw3, hw34, h6⟩ := inv_w hI
  first | refine r_aload_n dX0_back_0 rfl ?_ | refine r_aload_nq dX0_back_0 rfl ?_ | refine r_aload_nN dX0_back_0 rfl ?_
  refine r_getfield 0 0 dX0_back_1 rfl (Nat.le_of_ble_eq_true rfl) (lkA q404) (Or.inl rfl) (Or.inl hX) (by rfl) ?_
  refine r_iload_n dX0_back_4 rfl ?_
  refine r_invV dX0_back_5 (fl_e S0 (sp_X1_isSale (h := h) I0 (x := x))) rfl mo_X1_isSale (Or.inl (s_0 S0)) rfl (lkA q1394) (lkA q1395) (lkA q1396) rfl (lkA q65) mp_X1_isSale (Nat.le_of_ble_eq_true rfl) (Nat.le_of_ble_eq_true rfl) (Nat.le_of_ble_eq_true rfl) (kr_e ?_) kx_e
  refine r_if_ne 14 dX0_back_8 rfl (fun c8 => ?_) (fun c8 => ?_)
  · first | refine r_aload_n dX0_back_14 rfl ?_ | refine r_aload_nq dX0_back_14 rfl ?_ | refine r_aload_nN dX0_back_14 rfl ?_
    refine r_getfield 0 0 dX0_back_15 rfl (Nat.le_of_ble_eq_true rfl) (lkA q404) (Or.inl rfl) (Or.inl hX) (by rfl) ?_
    refine r_invV dX0_back_18 (sp_X1_copy hK S0 I0 hw2 hw24 hw3 hw34 h6) rfl mo_X1_copy (Or.inl (s_0 S0)) rfl (lkA q434) (lkA q435) (lkA q436) rfl (lkA q65) mp_X1_copy (Nat.le_of_ble_eq_true rfl) (Nat.le_of_ble_eq_true rfl) (Nat.le_of_ble_eq_true rfl) (kr_r (fun v9 H1 p9 => ?_)) kx_r
    obtain ⟨ad2, rfl, i2, f2, s2, hx2⟩ := p9
    have S1 : St H1 (aS 0) (wS 0) := St_ext S0 hx2
    first | refine r_astore_n dX0_back_21 (Nat.le_of_ble_eq_true rfl) ?_ | refine r_astore_nq dX0_back_21 (Nat.le_of_ble_eq_true rfl) ?_ | refine r_astore_nN dX0_back_21 (Nat.le_of_ble_eq_true rfl) ?_
    first | refine r_aload_n dX0_back_22 rfl ?_ | refine r_aload_nq dX0_back_22 rfl ?_ | refine r_aload_nN dX0_back_22 rfl ?_
    first | refine r_aload_n dX0_back_23 rfl ?_ | refine r_aload_nq dX0_back_23 rfl ?_ | refine r_aload_nN dX0_back_23 rfl ?_
    first | refine r_aload_n dX0_back_24 rfl ?_ | refine r_aload_nq dX0_back_24 rfl ?_ | refine r_aload_nN dX0_back_24 rfl ?_
    refine r_getfield 0 0 dX0_back_25 rfl (Nat.le_of_ble_eq_true rfl) (lkA q404) (Or.inl rfl) (Or.inl (hx2 _ _ hX)) (by rfl) ?_
    refine r_iload_n dX0_back_28 rfl ?_
    refine r_invV dX0_back_29 (fl_o S1 (sp_X1_takesBack (h := H1) I0 hK (isL_of hI c8) (tn (wS 0 (133 + 7 * tn x))) (tn (wS 0 (133 + 7 * tn x + 1))) (tn (wS 0 (133 + 7 * tn x + 2))) (inv_l hI (isL_of hI c8).2.2.2).1.1 (inv_l hI (isL_of hI c8).2.2.2).2.1.1 (inv_l hI (isL_of hI c8).2.2.2).2.2.1.1 (inv_l hI (isL_of hI c8).2.2.2).1.2.1 (inv_l hI (isL_of hI c8).2.2.2).2.1.2 (inv_l hI (isL_of hI c8).2.2.2).2.2.1.2 (inv_l hI (isL_of hI c8).2.2.2).1.2.2 hw34 (inv_l hI (isL_of hI c8).2.2.2).2.2.2)) rfl mo_X1_takesBack (Or.inl (s_0 S1)) rfl (lkA q1398) (lkA q1399) (lkA q1400) rfl (lkA q65) mp_X1_takesBack (Nat.le_of_ble_eq_true rfl) (Nat.le_of_ble_eq_true rfl) (Nat.le_of_ble_eq_true rfl) (fun v9 h9 p9 => ?_) (fun q9 h9 ci9 fs9 p9 hq9 => ?_)
    rotate_left
    · obtain ⟨a9, b9, hr9, h1, hx3, hq3, hqb, rfl⟩ := oQ_inr p9
      have hx4 : Ext h (cH (aS 0) (wS 0) h1) := fun q b hb => cH_ext hx3 q b (by rw [← St_eq S1]; exact hx2 q b hb)
      have hq9b : cH (aS 0) (wS 0) h1 q9 = some (bRef a9 b9) := (ov_n (ov_none hq3).1).trans hqb
      refine r_catch hq9b rfl [] _ [] rfl (fun _ h => by cases h) rfl (by decide) (lkA q430) (lkT q1055 rfl) ?_
      first | refine r_astore_n dX0_back_36 (Nat.le_of_ble_eq_true rfl) ?_ | refine r_astore_nq dX0_back_36 (Nat.le_of_ble_eq_true rfl) ?_ | refine r_astore_nN dX0_back_36 (Nat.le_of_ble_eq_true rfl) ?_
      first | refine r_aload_n dX0_back_37 rfl ?_ | refine r_aload_nq dX0_back_37 rfl ?_ | refine r_aload_nN dX0_back_37 rfl ?_
      first | refine r_aload_n dX0_back_38 rfl ?_ | refine r_aload_nq dX0_back_38 rfl ?_ | refine r_aload_nN dX0_back_38 rfl ?_
      refine r_invV dX0_back_39 (sp_X0_refused (hx4 _ _ hX) hq9b) rfl mo_X0_refused (Or.inl (hx4 _ _ hX)) rfl (lkA q1123) (lkA q1125) (lkA qs16) rfl (lkA q64) mp_X0_refused (Nat.le_of_ble_eq_true rfl) (Nat.le_of_ble_eq_true rfl) (Nat.le_of_ble_eq_true rfl) (kr_e ?_) kx_e
      exact r_ireturn dX0_back_42 rfl (by first | rfl | exact bi_nar) (by rw [hr9]; exact op_R hO hC hx4)
    obtain ⟨a9, w9, hr9, rfl, hP9⟩ := oQ_inl p9
    obtain ⟨hO2, hv2, hvD⟩ := op_mid hO hC hx2 f2 s2 hP9
    refine r_invV dX0_back_32 (sp_X0_changed hO2 hv2 hvD) rfl mo_X0_changed (Or.inl hO2.1) rfl (lkA q1082) (lkA q1084) (lkA qs13) rfl (lkA q64) mp_X0_changed (Nat.le_of_ble_eq_true rfl) (Nat.le_of_ble_eq_true rfl) (Nat.le_of_ble_eq_true rfl) (kr_r (fun v9 h9 p9 => ?_)) kx_r
    obtain ⟨rfl, hd', u', it', hch, rfl⟩ := p9
    exact r_ireturn dX0_back_35 rfl (by first | rfl | exact bi_nar) (by rw [hr9]; exact op_K2 hO hC hx2 i2 f2 s2 hP9 hch)
  · refine r_bipush (v := (-11)) dX0_back_11 rfl ?_
    exact r_ireturn dX0_back_13 rfl (by first | rfl | exact bi_nar) (by rw [show oBack (wS 0) x = oC (-11) by unfold oBack; rw [if_neg (by rw [bi_0.mp c8]; decide)]]; exact op_C hO hC)

set_option maxHeartbeats 4000000 in
set_option maxRecDepth 100000 in
theorem sp_X0_day {G : GG} {h : HP} (hK : KS G) {X D R hd u : Nat} {aS : Nat → Nat → Nat} {wS : Nat → Nat → Int32} {sv : Bool} {rs dt : Int32} {tx la : Nat} (hO : CO X D R hd u aS sv rs dt tx la h) (hC : CS aS wS u sv h) {D9 : Int} (hI : Inv D9 (wS 0))  : Ct G 12 3600 M_X0_day [.ref X] h (puQ X D R hd u aS wS sv rs dt tx la h (oDay (wS 0))) := by
  refine ct_intro my_X0_day (Nat.le_of_ble_eq_true rfl) ?_
  have hX := hO.1
  have S0 := (hC.1 0 (Or.inl rfl)).1
  have I0 := (hC.1 0 (Or.inl rfl)).2
  obtain ⟨hw2, hw24, hw3, hw34, h6⟩ := inv_w hI
  first | refine r_aload_n dX0_day_0 rfl ?_ | refine r_aload_nq dX0_day_0 rfl ?_ | refine r_aload_nN dX0_day_0 rfl ?_
  refine r_getfield 0 0 dX0_day_1 rfl (Nat.le_of_ble_eq_true rfl) (lkA q404) (Or.inl rfl) (Or.inl hX) (by rfl) ?_
  refine r_invV dX0_day_4 (sp_X1_copy hK S0 I0 hw2 hw24 hw3 hw34 h6) rfl mo_X1_copy (Or.inl (s_0 S0)) rfl (lkA q434) (lkA q435) (lkA q436) rfl (lkA q65) mp_X1_copy (Nat.le_of_ble_eq_true rfl) (Nat.le_of_ble_eq_true rfl) (Nat.le_of_ble_eq_true rfl) (kr_r (fun v9 H1 p9 => ?_)) kx_r
  obtain ⟨ad2, rfl, i2, f2, s2, hx2⟩ := p9
  have S1 : St H1 (aS 0) (wS 0) := St_ext S0 hx2
  first | refine r_astore_n dX0_day_7 (Nat.le_of_ble_eq_true rfl) ?_ | refine r_astore_nq dX0_day_7 (Nat.le_of_ble_eq_true rfl) ?_ | refine r_astore_nN dX0_day_7 (Nat.le_of_ble_eq_true rfl) ?_
  first | refine r_aload_n dX0_day_8 rfl ?_ | refine r_aload_nq dX0_day_8 rfl ?_ | refine r_aload_nN dX0_day_8 rfl ?_
  first | refine r_aload_n dX0_day_9 rfl ?_ | refine r_aload_nq dX0_day_9 rfl ?_ | refine r_aload_nN dX0_day_9 rfl ?_
  first | refine r_aload_n dX0_day_10 rfl ?_ | refine r_aload_nq dX0_day_10 rfl ?_ | refine r_aload_nN dX0_day_10 rfl ?_
  refine r_getfield 0 0 dX0_day_11 rfl (Nat.le_of_ble_eq_true rfl) (lkA q404) (Or.inl rfl) (Or.inl (hx2 _ _ hX)) (by rfl) ?_
  refine r_invV dX0_day_14 (fl_o S1 ((sp_X1_dayEnds (h := H1) I0 (fun m hm => ⟨(hI.2.2.2.2.2.2.1 m hm).1, (hI.2.2.2.2.2.2.1 m hm).2.1⟩)).mono (day_oQ I0))) rfl mo_X1_dayEnds (Or.inl (s_0 S1)) rfl (lkA q1417) (lkA q1418) (lkA q1419) rfl (lkA q65) mp_X1_dayEnds (Nat.le_of_ble_eq_true rfl) (Nat.le_of_ble_eq_true rfl) (Nat.le_of_ble_eq_true rfl) (fun v9 h9 p9 => ?_) (fun q9 h9 ci9 fs9 p9 hq9 => False.elim p9)
  obtain ⟨a9, w9, hr9, rfl, hP9⟩ := oQ_inl p9
  obtain ⟨hO2, hv2, hvD⟩ := op_mid hO hC hx2 f2 s2 hP9
  refine r_invV dX0_day_17 (sp_X0_changed hO2 hv2 hvD) rfl mo_X0_changed (Or.inl hO2.1) rfl (lkA q1082) (lkA q1084) (lkA qs13) rfl (lkA q64) mp_X0_changed (Nat.le_of_ble_eq_true rfl) (Nat.le_of_ble_eq_true rfl) (Nat.le_of_ble_eq_true rfl) (kr_r (fun v9 h9 p9 => ?_)) kx_r
  obtain ⟨rfl, hd', u', it', hch, rfl⟩ := p9
  exact r_ireturn dX0_day_20 rfl (by first | rfl | exact bi_nar) (by rw [hr9]; exact op_K2 hO hC hx2 i2 f2 s2 hP9 hch)

