set_option maxRecDepth 100000
theorem gd_1 {l t : List Int32} {j : Nat} (h : j < l.length) : (l ++ t).getD j 0 = l.getD j 0 := by
  rw [List.getD_eq_getElem?_getD, List.getD_eq_getElem?_getD, List.getElem?_append_left h]
theorem gd_2 {l t : List Int32} {j : Nat} (h : l.length ≤ j) : (l ++ t).getD j 0 = t.getD (j - l.length) 0 := by
  rw [List.getD_eq_getElem?_getD, List.getD_eq_getElem?_getD, List.getElem?_append_right h]
theorem Has_fr {G : GG} {h h' : HP} {q : Nat} {b : Bd} (hh : Has G h q b) (hx : ∀ c, h q = some c → h' q = some c) : Has G h' q b := by
  rcases hh with e | e
  · exact Or.inl (hx b e)
  · exact Or.inr e
theorem nI_s {n : Nat} : nI n + 1 = nI (n + 1) := by rw [nI_succ]
/-- bytes at the place n -/
theorem SB_put {h : HP} {a r N : Nat} {l t : List Int32} {m : Int32} {g : Nat → Int32} (ha : h a = some (bO 14 [.ref r, .int 0, .int m, .int (nI (l ++ t).length)])) (hr : h r = some (bI 1 N g)) (hl : l.length + t.length ≤ N) (hN : N ≤ 130) (hg : ∀ j, j < N → asc (g j)) (h1 : ∀ j, j < l.length → g j = l.getD j 0) (h2 : ∀ j, j < t.length → g (l.length + j) = t.getD j 0) : SB h a r N (l ++ t) := by
  refine ⟨m, g, ha, hr, by rw [List.length_append]; exact hl, hN, hg, fun j hj => ?_⟩
  rw [List.length_append] at hj
  by_cases e : j < l.length
  · rw [gd_1 e]
    exact h1 j e
  · rw [gd_2 (by omega), ← h2 (j - l.length) (by omega), show l.length + (j - l.length) = j by omega]
set_option maxHeartbeats 4000000 in
set_option maxRecDepth 100000 in
theorem sp_J21_canEncode {G : GG} {h : HP} {c : Int32} (hc : asc c) : Ct G 0 0 M_J21_canEncode [.int c] h (eQ (some (.int 1)) h) := by
  refine ct_intro my_J21_canEncode (Nat.le_of_ble_eq_true rfl) ?_
  refine r_iload_n dJ21_canEncode_0 rfl ?_
  refine r_sipush (v := 255) dJ21_canEncode_1 rfl ?_
  refine r_icmp_gt 11 dJ21_canEncode_4 rfl (fun c4 => absurd c4 (by rw [Int32.lt_iff_toInt_lt]; have h0 : (255 : Int32).toInt = 255 := rfl; have := hc.2; omega)) (fun c4 => ?_)
  refine r_iconst (v := 1) dJ21_canEncode_7 rfl ?_
  refine r_goto 12 dJ21_canEncode_8 rfl ?_
  exact r_ireturn dJ21_canEncode_12 rfl (by first | rfl | exact bi_nar) (by first | exact ⟨rfl, rfl⟩ | rfl)

set_option maxHeartbeats 4000000 in
set_option maxRecDepth 100000 in
theorem sp_J10_append_2 {G : GG} {h : HP} (hT : KT G) {a r N : Nat} {l : List Int32} (hS : SB h a r N l) {c : Int32} (hc : asc c) (h60 : l.length < 64) : Ct G 4 301 M_J10_append_2 [.ref a, .int c] h (rQ (fun v' h' => v' = some (.ref a) ∧ ∃ r' N', SB h' a r' N' (l ++ [c]) ∧ (r' = r ∨ h r' = none) ∧ ∀ q b, q ≠ a → q ≠ r → h q = some b → h' q = some b)) := by
  refine ct_intro my_J10_append_2 (Nat.le_of_ble_eq_true rfl) ?_
  have hS0 := hS
  obtain ⟨m, g, ha, hr, hl, hN, hg, hv⟩ := hS
  first | refine r_aload_n dJ10_append_2_0 rfl ?_ | refine r_aload_nq dJ10_append_2_0 rfl ?_ | refine r_aload_nN dJ10_append_2_0 rfl ?_
  first | refine r_aload_n dJ10_append_2_1 rfl ?_ | refine r_aload_nq dJ10_append_2_1 rfl ?_ | refine r_aload_nN dJ10_append_2_1 rfl ?_
  refine r_getfield 14 3 dJ10_append_2_2 rfl (Nat.le_of_ble_eq_true rfl) (lkA q392) (Or.inl rfl) (Or.inl ha) (by rfl) ?_
  refine r_iconst (v := 1) dJ10_append_2_5 rfl ?_
  refine r_iadd dJ10_append_2_6 ?_
  rw [nI_s]
  refine r_invVP dJ10_append_2_7 (sp_cap hS0 (l.length + 1) (by omega)) rfl mo_J10_ensureCapacityInternal (Or.inl ha) rfl (lkA q671) (lkA q673) q672 (lkA q692) rfl (lkA q78) mp_J10_ensureCapacityInternal (Nat.le_of_ble_eq_true rfl) (Nat.le_of_ble_eq_true rfl) (Nat.le_of_ble_eq_true rfl) (kr_r (fun v9 h9 p9 => ?_)) kx_r
  obtain ⟨rfl, r', N', hS', hk', hr', hf⟩ := p9
  obtain ⟨m2, g2, ha2, hr2, hl2, hN2, hg2, hv2⟩ := hS'
  have era : r' ≠ a := ne_b ha2 hr2 (fun e => by cases e)
  have hix := nIn (show l.length < 1000 by omega)
  first | refine r_aload_n dJ10_append_2_10 rfl ?_ | refine r_aload_nq dJ10_append_2_10 rfl ?_ | refine r_aload_nN dJ10_append_2_10 rfl ?_
  refine r_invU (owner := "java/lang/AbstractStringBuilder") dJ10_append_2_11 (sp_J10_isLatin1 hT (N := 0) (g := fun _ => 0) ha2) rfl mo_J10_isLatin1 (Or.inl ha2) rfl (lkA q689) (lkA q691) (Or.inl ⟨(lkA q690), _, _, _, (lkA q693)⟩) ⟨by decide +kernel, by decide +kernel⟩ (lkA q692) (lkA q690) rfl (show _ = some 0 from by decide +kernel) (lkA q78) mp_J10_isLatin1 (Nat.le_of_ble_eq_true rfl) (Nat.le_of_ble_eq_true rfl) (Nat.le_of_ble_eq_true rfl) (kr_e ?_) kx_e
  refine r_if_eq 45 dJ10_append_2_14 rfl (fun c14 => absurd c14 (by decide)) (fun c14 => ?_)
  refine r_iload_n dJ10_append_2_17 rfl ?_
  refine r_invS dJ10_append_2_18 (sp_J21_canEncode hc) rfl mo_J21_canEncode (lkA q1437) (lkA q1438) (lkA q90) mp_J21_canEncode (Nat.le_of_ble_eq_true rfl) (Nat.le_of_ble_eq_true rfl) (Nat.le_of_ble_eq_true rfl) (kr_e ?_) kx_e
  refine r_if_eq 45 dJ10_append_2_21 rfl (fun c21 => absurd c21 (by decide)) (fun c21 => ?_)
  first | refine r_aload_n dJ10_append_2_24 rfl ?_ | refine r_aload_nq dJ10_append_2_24 rfl ?_ | refine r_aload_nN dJ10_append_2_24 rfl ?_
  refine r_getfield 14 0 dJ10_append_2_25 rfl (Nat.le_of_ble_eq_true rfl) (lkA q388) (Or.inl rfl) (Or.inl ha2) (by rfl) ?_
  first | refine r_aload_n dJ10_append_2_28 rfl ?_ | refine r_aload_nq dJ10_append_2_28 rfl ?_ | refine r_aload_nN dJ10_append_2_28 rfl ?_
  refine r_dup dJ10_append_2_29 rfl ?_
  refine r_getfield 14 3 dJ10_append_2_30 rfl (Nat.le_of_ble_eq_true rfl) (lkA q392) (Or.inl rfl) (Or.inl ha2) (by rfl) ?_
  refine r_dup_x1 dJ10_append_2_33 rfl rfl ?_
  refine r_iconst (v := 1) dJ10_append_2_34 rfl ?_
  refine r_iadd dJ10_append_2_35 ?_
  refine r_put 14 3 dJ10_append_2_36 rfl (Nat.le_of_ble_eq_true rfl) (lkA q392) (Or.inl rfl) rfl ha2 (by dsimp only [List.set]) (Nat.le_of_ble_eq_true rfl) rfl rfl (by first | exact hu_hu | exact rfl) ?_
  refine r_iload_n dJ10_append_2_39 rfl ?_
  refine r_i2b dJ10_append_2_40 ?_
  refine r_bastore (l.length) dJ10_append_2_41 ((hu_n era).trans hr2) hix (by omega) ?_
  refine r_goto 75 dJ10_append_2_42 rfl ?_
  first | refine r_aload_n dJ10_append_2_75 rfl ?_ | refine r_aload_nq dJ10_append_2_75 rfl ?_ | refine r_aload_nN dJ10_append_2_75 rfl ?_
  rw [asc_i2b hc]
  refine V_gen (fun H9 hH9 => ?_)
  have key : SB H9 a r' N' (l ++ [c]) := by
    refine SB_put (l := l) (t := [c]) (m := m2) (g := upd g2 l.length c) ?_ ?_ (by show l.length + 1 ≤ N'; omega) hN2 (fun j hj => ?_) (fun j hj => by rw [upd_n (by omega)]; exact hv2 j hj) (fun j hj => ?_)
    · rw [← hH9, hu_n (Ne.symm era), hu_s, nI_s, List.length_append]
      rfl
    · rw [← hH9, hu_s, asc_i2b hc]
    · by_cases e : j = l.length
      · rw [e, upd_s]; exact hc
      · rw [upd_n e]; exact hg2 j hj
    · have hj1 : j < 1 := hj
      obtain rfl : j = 0 := by omega
      rw [Nat.add_zero, upd_s]
      rfl
  have frm : ∀ q b, q ≠ a → q ≠ r → h q = some b → H9 q = some b := fun q b hqa hqr hb => by
    have hb2 := hf q b hqa hb
    have e : q ≠ r' := fun e => by
      rcases hr' with e2 | e2
      · exact hqr (e.trans e2)
      · rw [e, e2] at hb; cases hb
    rw [← hH9, hu_n e, hu_n hqa]
    exact hb2
  first | exact r_areturn dJ10_append_2_76 rfl rfl ⟨rfl, r', N', key, hr', frm⟩ | exact r_areturnq dJ10_append_2_76 rfl rfl ⟨rfl, r', N', key, hr', frm⟩ | exact r_areturnN dJ10_append_2_76 rfl rfl ⟨rfl, r', N', key, hr', frm⟩

set_option maxHeartbeats 4000000 in
set_option maxRecDepth 100000 in
theorem sp_J11_append_2 {G : GG} {h : HP} (hT : KT G) {a r N : Nat} {l : List Int32} (hS : SB h a r N l) {c : Int32} (hc : asc c) (h60 : l.length < 64) : Ct G 5 301 M_J11_append_2 [.ref a, .int c] h (rQ (fun v' h' => v' = some (.ref a) ∧ ∃ r' N', SB h' a r' N' (l ++ [c]) ∧ (r' = r ∨ h r' = none) ∧ ∀ q b, q ≠ a → q ≠ r → h q = some b → h' q = some b)) := by
  refine ct_intro my_J11_append_2 (Nat.le_of_ble_eq_true rfl) ?_
  have ha := hS.choose_spec.choose_spec.1
  first | refine r_aload_n dJ11_append_2_0 rfl ?_ | refine r_aload_nq dJ11_append_2_0 rfl ?_ | refine r_aload_nN dJ11_append_2_0 rfl ?_
  refine r_iload_n dJ11_append_2_1 rfl ?_
  refine r_invSU dJ11_append_2_2 (sp_J10_append_2 hT hS hc h60) rfl mo_J10_append_2 (Or.inl ha) rfl (lkA q1434) (lkA q2246) (lkA q401) (lkA q1435) rfl (by decide +kernel) (lkA q78) mp_J10_append_2 (Nat.le_of_ble_eq_true rfl) (Nat.le_of_ble_eq_true rfl) (Nat.le_of_ble_eq_true rfl) (kr_r (fun v9 h9 p9 => ?_)) kx_r
  obtain ⟨rfl, hq9⟩ := p9
  refine r_pop dJ11_append_2_5 rfl ?_
  first | refine r_aload_n dJ11_append_2_6 rfl ?_ | refine r_aload_nq dJ11_append_2_6 rfl ?_ | refine r_aload_nN dJ11_append_2_6 rfl ?_
  first | exact r_areturn dJ11_append_2_7 rfl rfl ⟨rfl, hq9⟩ | exact r_areturnq dJ11_append_2_7 rfl rfl ⟨rfl, hq9⟩ | exact r_areturnN dJ11_append_2_7 rfl rfl ⟨rfl, hq9⟩

set_option maxHeartbeats 4000000 in
set_option maxRecDepth 100000 in
theorem sp_J10_inflate {G : GG} {h : HP} (hT : KT G) {s v : Nat} {x y : Value} (hs : Has G h s (bO 15 [.ref v, .int 0, x, y])) {a r : Nat} {m c : Int32} (ha : h a = some (bO 14 [.ref r, .int 0, .int m, .int c]))  : Ct G 1 0 M_J10_inflateIfNeededFor [.ref a, .ref s] h (eQ none h) := by
  refine ct_intro my_J10_inflateIfNeededFor (Nat.le_of_ble_eq_true rfl) ?_
  refine r_getstatic (C := "java/lang/String") dJ10_inflateIfNeededFor_0 (lkA q379) (Or.inl rfl) hT.1.1 ?_
  refine r_if_eq 21 dJ10_inflateIfNeededFor_3 rfl (fun c3 => absurd c3 (by decide)) (fun c3 => ?_)
  first | refine r_aload_n dJ10_inflateIfNeededFor_6 rfl ?_ | refine r_aload_nq dJ10_inflateIfNeededFor_6 rfl ?_ | refine r_aload_nN dJ10_inflateIfNeededFor_6 rfl ?_
  refine r_getfield 14 1 dJ10_inflateIfNeededFor_7 rfl (Nat.le_of_ble_eq_true rfl) (lkA q389) (Or.inl rfl) (Or.inl ha) (by rfl) ?_
  first | refine r_aload_n dJ10_inflateIfNeededFor_10 rfl ?_ | refine r_aload_nq dJ10_inflateIfNeededFor_10 rfl ?_ | refine r_aload_nN dJ10_inflateIfNeededFor_10 rfl ?_
  refine r_invV dJ10_inflateIfNeededFor_11 (sp_J12_coder hT hs) rfl mo_J12_coder hs rfl (lkA q737) (lkA q725) (lkA q726) rfl (lkA q80) mp_J12_coder (Nat.le_of_ble_eq_true rfl) (Nat.le_of_ble_eq_true rfl) (Nat.le_of_ble_eq_true rfl) (kr_e ?_) kx_e
  refine r_icmp_eq 21 dJ10_inflateIfNeededFor_14 rfl (fun c14 => ?_) (fun c14 => absurd c14 (fun e => e rfl))
  exact r_return dJ10_inflateIfNeededFor_21 rfl (by first | exact ⟨rfl, rfl⟩ | rfl)

set_option maxHeartbeats 4000000 in
set_option maxRecDepth 100000 in
theorem sp_J10_putStringAt {G : GG} {h : HP} (hT : KT G) {s v : Nat} {x y : Value} (hs : Has G h s (bO 15 [.ref v, .int 0, x, y])) {a r N n L : Nat} {m c : Int32} {f g : Nat → Int32} (hv : Has G h v (bI 1 L f)) (ha : h a = some (bO 14 [.ref r, .int 0, .int m, .int c])) (hr : h r = some (bI 1 N g)) (hL : L < 1000) (hn : n < 1000) (hN : n + L ≤ N) (hf : ∀ j, j < L → asc (f j)) : Ct G 3 0 M_J10_putStringAt [.ref a, .int (nI n), .ref s] h (eQ none (hu h r (bI 1 N (va_cpy f g 0 n L)))) := by
  refine ct_intro my_J10_putStringAt (Nat.le_of_ble_eq_true rfl) ?_
  first | refine r_aload_n dJ10_putStringAt_0 rfl ?_ | refine r_aload_nq dJ10_putStringAt_0 rfl ?_ | refine r_aload_nN dJ10_putStringAt_0 rfl ?_
  first | refine r_aload_n dJ10_putStringAt_1 rfl ?_ | refine r_aload_nq dJ10_putStringAt_1 rfl ?_ | refine r_aload_nN dJ10_putStringAt_1 rfl ?_
  refine r_invVP dJ10_putStringAt_2 (sp_J10_inflate hT hs ha) rfl mo_J10_inflateIfNeededFor (Or.inl ha) rfl (lkA q733) (lkA q735) q734 (lkA q692) rfl (lkA q78) mp_J10_inflateIfNeededFor (Nat.le_of_ble_eq_true rfl) (Nat.le_of_ble_eq_true rfl) (Nat.le_of_ble_eq_true rfl) (kr_e ?_) kx_e
  first | refine r_aload_n dJ10_putStringAt_5 rfl ?_ | refine r_aload_nq dJ10_putStringAt_5 rfl ?_ | refine r_aload_nN dJ10_putStringAt_5 rfl ?_
  first | refine r_aload_n dJ10_putStringAt_6 rfl ?_ | refine r_aload_nq dJ10_putStringAt_6 rfl ?_ | refine r_aload_nN dJ10_putStringAt_6 rfl ?_
  refine r_getfield 14 0 dJ10_putStringAt_7 rfl (Nat.le_of_ble_eq_true rfl) (lkA q388) (Or.inl rfl) (Or.inl ha) (by rfl) ?_
  refine r_iload_n dJ10_putStringAt_10 rfl ?_
  first | refine r_aload_n dJ10_putStringAt_11 rfl ?_ | refine r_aload_nq dJ10_putStringAt_11 rfl ?_ | refine r_aload_nN dJ10_putStringAt_11 rfl ?_
  refine r_getfield 14 1 dJ10_putStringAt_12 rfl (Nat.le_of_ble_eq_true rfl) (lkA q389) (Or.inl rfl) (Or.inl ha) (by rfl) ?_
  refine r_invV dJ10_putStringAt_15 (sp_J12_getBytes hT hs hv hr hL hn hN hf) rfl mo_J12_getBytes hs rfl (lkA q757) (lkA q758) (lkA q759) rfl (lkA q80) mp_J12_getBytes (Nat.le_of_ble_eq_true rfl) (Nat.le_of_ble_eq_true rfl) (Nat.le_of_ble_eq_true rfl) (kr_e ?_) kx_e
  exact r_return dJ10_putStringAt_18 rfl (by first | exact ⟨rfl, rfl⟩ | rfl)

set_option maxHeartbeats 4000000 in
set_option maxRecDepth 100000 in
theorem sp_J10_append {G : GG} {h : HP} (hT : KT G) {s v : Nat} {x y : Value} (hs : Has G h s (bO 15 [.ref v, .int 0, x, y])) {t : List Int32} {f : Nat → Int32} (hv : Has G h v (bI 1 t.length f)) (hft : ∀ j, j < t.length → f j = t.getD j 0) (ht : ∀ j, j < t.length → asc (t.getD j 0)) {a r N : Nat} {l : List Int32} (hS : SB h a r N l) (hsv : ¬ (s = a ∨ v = a)) (h60 : l.length + t.length ≤ 64) : Ct G 4 301 M_J10_append [.ref a, .ref s] h (rQ (fun v' h' => v' = some (.ref a) ∧ ∃ r' N', SB h' a r' N' (l ++ t) ∧ (r' = r ∨ h r' = none) ∧ ∀ q b, q ≠ a → q ≠ r → h q = some b → h' q = some b)) := by
  refine ct_intro my_J10_append (Nat.le_of_ble_eq_true rfl) ?_
  have hS0 := hS
  obtain ⟨m, g, ha, hr, hl, hN, hg, hvv⟩ := hS
  have esa : s = a → False := fun e => hsv (Or.inl e)
  have eva : v = a → False := fun e => hsv (Or.inr e)
  first | refine r_aload_n dJ10_append_0 rfl ?_ | refine r_aload_nq dJ10_append_0 rfl ?_ | refine r_aload_nN dJ10_append_0 rfl ?_
  refine r_ifnonnull 9 dJ10_append_1 rfl ?_
  first | refine r_aload_n dJ10_append_9 rfl ?_ | refine r_aload_nq dJ10_append_9 rfl ?_ | refine r_aload_nN dJ10_append_9 rfl ?_
  refine r_invV dJ10_append_10 (sp_J12_length hT hs hv) rfl mo_J12_length hs rfl (lkA q720) (lkA q721) (lkA q722) rfl (lkA q80) mp_J12_length (Nat.le_of_ble_eq_true rfl) (Nat.le_of_ble_eq_true rfl) (Nat.le_of_ble_eq_true rfl) (kr_e ?_) kx_e
  refine r_istore_n dJ10_append_13 (Nat.le_of_ble_eq_true rfl) ?_
  first | refine r_aload_n dJ10_append_14 rfl ?_ | refine r_aload_nq dJ10_append_14 rfl ?_ | refine r_aload_nN dJ10_append_14 rfl ?_
  first | refine r_aload_n dJ10_append_15 rfl ?_ | refine r_aload_nq dJ10_append_15 rfl ?_ | refine r_aload_nN dJ10_append_15 rfl ?_
  refine r_getfield 14 3 dJ10_append_16 rfl (Nat.le_of_ble_eq_true rfl) (lkA q392) (Or.inl rfl) (Or.inl ha) (by rfl) ?_
  refine r_iload_n dJ10_append_19 rfl ?_
  refine r_iadd dJ10_append_20 ?_
  rw [nJ_add (by omega)]
  refine r_invVP dJ10_append_21 (sp_cap hS0 (l.length + t.length) (by omega)) rfl mo_J10_ensureCapacityInternal (Or.inl ha) rfl (lkA q671) (lkA q673) q672 (lkA q692) rfl (lkA q78) mp_J10_ensureCapacityInternal (Nat.le_of_ble_eq_true rfl) (Nat.le_of_ble_eq_true rfl) (Nat.le_of_ble_eq_true rfl) (kr_r (fun v9 h9 p9 => ?_)) kx_r
  obtain ⟨rfl, r', N', hS', hk', hr', hf⟩ := p9
  obtain ⟨m2, g2, ha2, hr2, hl2, hN2, hg2, hv2⟩ := hS'
  have era : r' ≠ a := ne_b ha2 hr2 (fun e => by cases e)
  have hs2 := Has_fr hs (h' := h9) (fun b hb => hf s b (fun e => esa e) hb)
  have hv3 := Has_fr hv (h' := h9) (fun b hb => hf v b (fun e => eva e) hb)
  first | refine r_aload_n dJ10_append_24 rfl ?_ | refine r_aload_nq dJ10_append_24 rfl ?_ | refine r_aload_nN dJ10_append_24 rfl ?_
  first | refine r_aload_n dJ10_append_25 rfl ?_ | refine r_aload_nq dJ10_append_25 rfl ?_ | refine r_aload_nN dJ10_append_25 rfl ?_
  refine r_getfield 14 3 dJ10_append_26 rfl (Nat.le_of_ble_eq_true rfl) (lkA q392) (Or.inl rfl) (Or.inl ha2) (by rfl) ?_
  first | refine r_aload_n dJ10_append_29 rfl ?_ | refine r_aload_nq dJ10_append_29 rfl ?_ | refine r_aload_nN dJ10_append_29 rfl ?_
  refine r_invVP dJ10_append_30 (sp_J10_putStringAt hT hs2 hv3 ha2 hr2 (by omega) (by omega) (by omega) (fun j hj => by rw [hft j hj]; exact ht j hj)) rfl mo_J10_putStringAt (Or.inl ha2) rfl (lkA q729) (lkA q731) q730 (lkA q692) rfl (lkA q78) mp_J10_putStringAt (Nat.le_of_ble_eq_true rfl) (Nat.le_of_ble_eq_true rfl) (Nat.le_of_ble_eq_true rfl) (kr_e ?_) kx_e
  first | refine r_aload_n dJ10_append_33 rfl ?_ | refine r_aload_nq dJ10_append_33 rfl ?_ | refine r_aload_nN dJ10_append_33 rfl ?_
  refine r_dup dJ10_append_34 rfl ?_
  refine r_getfield 14 3 dJ10_append_35 rfl (Nat.le_of_ble_eq_true rfl) (lkA q392) (Or.inl rfl) (Or.inl ((hu_n (Ne.symm era)).trans ha2)) (by rfl) ?_
  refine r_iload_n dJ10_append_38 rfl ?_
  refine r_iadd dJ10_append_39 ?_
  refine r_put 14 3 dJ10_append_40 rfl (Nat.le_of_ble_eq_true rfl) (lkA q392) (Or.inl rfl) rfl ((hu_n (Ne.symm era)).trans ha2) (by dsimp only [List.set]) (Nat.le_of_ble_eq_true rfl) rfl rfl (by first | exact hu_hu | exact rfl) ?_
  first | refine r_aload_n dJ10_append_43 rfl ?_ | refine r_aload_nq dJ10_append_43 rfl ?_ | refine r_aload_nN dJ10_append_43 rfl ?_
  rw [nJ_add (by omega)]
  first | exact r_areturn dJ10_append_44 rfl rfl ⟨rfl, r', N', SB_put (l := l) (t := t) (m := m2) (hu_s.trans (by rw [List.length_append])) ((hu_n era).trans hu_s) (by omega) hN2 (fun j hj => by
    show asc (if l.length ≤ j ∧ j < l.length + t.length then f (0 + (j - l.length)) else g2 j)
    by_cases e : l.length ≤ j ∧ j < l.length + t.length
    · rw [if_pos e, hft _ (by omega)]; exact ht _ (by omega)
    · rw [if_neg e]; exact hg2 j hj) (fun j hj => by
    show (if l.length ≤ j ∧ j < l.length + t.length then f (0 + (j - l.length)) else g2 j) = _
    rw [if_neg (by omega)]; exact hv2 j hj) (fun j hj => by
    show (if l.length ≤ l.length + j ∧ l.length + j < l.length + t.length then f (0 + (l.length + j - l.length)) else g2 (l.length + j)) = _
    rw [if_pos (by omega), show 0 + (l.length + j - l.length) = j by omega, hft j hj]), hr', fun q b hqa hqr hb => by
    have hb2 := hf q b hqa hb
    have e : q ≠ r' := fun e => by
      rcases hr' with e2 | e2
      · exact hqr (e.trans e2)
      · rw [e, e2] at hb; cases hb
    rw [hu_n hqa, hu_n e]; exact hb2⟩ | exact r_areturnq dJ10_append_44 rfl rfl ⟨rfl, r', N', SB_put (l := l) (t := t) (m := m2) (hu_s.trans (by rw [List.length_append])) ((hu_n era).trans hu_s) (by omega) hN2 (fun j hj => by
    show asc (if l.length ≤ j ∧ j < l.length + t.length then f (0 + (j - l.length)) else g2 j)
    by_cases e : l.length ≤ j ∧ j < l.length + t.length
    · rw [if_pos e, hft _ (by omega)]; exact ht _ (by omega)
    · rw [if_neg e]; exact hg2 j hj) (fun j hj => by
    show (if l.length ≤ j ∧ j < l.length + t.length then f (0 + (j - l.length)) else g2 j) = _
    rw [if_neg (by omega)]; exact hv2 j hj) (fun j hj => by
    show (if l.length ≤ l.length + j ∧ l.length + j < l.length + t.length then f (0 + (l.length + j - l.length)) else g2 (l.length + j)) = _
    rw [if_pos (by omega), show 0 + (l.length + j - l.length) = j by omega, hft j hj]), hr', fun q b hqa hqr hb => by
    have hb2 := hf q b hqa hb
    have e : q ≠ r' := fun e => by
      rcases hr' with e2 | e2
      · exact hqr (e.trans e2)
      · rw [e, e2] at hb; cases hb
    rw [hu_n hqa, hu_n e]; exact hb2⟩ | exact r_areturnN dJ10_append_44 rfl rfl ⟨rfl, r', N', SB_put (l := l) (t := t) (m := m2) (hu_s.trans (by rw [List.length_append])) ((hu_n era).trans hu_s) (by omega) hN2 (fun j hj => by
    show asc (if l.length ≤ j ∧ j < l.length + t.length then f (0 + (j - l.length)) else g2 j)
    by_cases e : l.length ≤ j ∧ j < l.length + t.length
    · rw [if_pos e, hft _ (by omega)]; exact ht _ (by omega)
    · rw [if_neg e]; exact hg2 j hj) (fun j hj => by
    show (if l.length ≤ j ∧ j < l.length + t.length then f (0 + (j - l.length)) else g2 j) = _
    rw [if_neg (by omega)]; exact hv2 j hj) (fun j hj => by
    show (if l.length ≤ l.length + j ∧ l.length + j < l.length + t.length then f (0 + (l.length + j - l.length)) else g2 (l.length + j)) = _
    rw [if_pos (by omega), show 0 + (l.length + j - l.length) = j by omega, hft j hj]), hr', fun q b hqa hqr hb => by
    have hb2 := hf q b hqa hb
    have e : q ≠ r' := fun e => by
      rcases hr' with e2 | e2
      · exact hqr (e.trans e2)
      · rw [e, e2] at hb; cases hb
    rw [hu_n hqa, hu_n e]; exact hb2⟩

set_option maxHeartbeats 4000000 in
set_option maxRecDepth 100000 in
theorem sp_J11_append {G : GG} {h : HP} (hT : KT G) {s v : Nat} {x y : Value} (hs : Has G h s (bO 15 [.ref v, .int 0, x, y])) {t : List Int32} {f : Nat → Int32} (hv : Has G h v (bI 1 t.length f)) (hft : ∀ j, j < t.length → f j = t.getD j 0) (ht : ∀ j, j < t.length → asc (t.getD j 0)) {a r N : Nat} {l : List Int32} (hS : SB h a r N l) (hsv : ¬ (s = a ∨ v = a)) (h60 : l.length + t.length ≤ 64) : Ct G 5 301 M_J11_append [.ref a, .ref s] h (rQ (fun v' h' => v' = some (.ref a) ∧ ∃ r' N', SB h' a r' N' (l ++ t) ∧ (r' = r ∨ h r' = none) ∧ ∀ q b, q ≠ a → q ≠ r → h q = some b → h' q = some b)) := by
  refine ct_intro my_J11_append (Nat.le_of_ble_eq_true rfl) ?_
  have ha := hS.choose_spec.choose_spec.1
  first | refine r_aload_n dJ11_append_0 rfl ?_ | refine r_aload_nq dJ11_append_0 rfl ?_ | refine r_aload_nN dJ11_append_0 rfl ?_
  first | refine r_aload_n dJ11_append_1 rfl ?_ | refine r_aload_nq dJ11_append_1 rfl ?_ | refine r_aload_nN dJ11_append_1 rfl ?_
  refine r_invSU dJ11_append_2 (sp_J10_append hT hs hv hft ht hS hsv h60) rfl mo_J10_append (Or.inl ha) rfl (lkA q664) (lkA q2234) (lkA q401) (lkA q665) rfl (by decide +kernel) (lkA q78) mp_J10_append (Nat.le_of_ble_eq_true rfl) (Nat.le_of_ble_eq_true rfl) (Nat.le_of_ble_eq_true rfl) (kr_r (fun v9 h9 p9 => ?_)) kx_r
  obtain ⟨rfl, hq9⟩ := p9
  refine r_pop dJ11_append_5 rfl ?_
  first | refine r_aload_n dJ11_append_6 rfl ?_ | refine r_aload_nq dJ11_append_6 rfl ?_ | refine r_aload_nN dJ11_append_6 rfl ?_
  first | exact r_areturn dJ11_append_7 rfl rfl ⟨rfl, hq9⟩ | exact r_areturnq dJ11_append_7 rfl rfl ⟨rfl, hq9⟩ | exact r_areturnN dJ11_append_7 rfl rfl ⟨rfl, hq9⟩

set_option maxHeartbeats 4000000 in
set_option maxRecDepth 100000 in
theorem sp_J10_length {G : GG} {h : HP} {a r N : Nat} {l : List Int32} (hS : SB h a r N l)  : Ct G 0 0 M_J10_length [.ref a] h (eQ (some (.int (nI l.length))) h) := by
  refine ct_intro my_J10_length (Nat.le_of_ble_eq_true rfl) ?_
  obtain ⟨m, g, ha, hr, hl, hN, hg, hv⟩ := hS
  first | refine r_aload_n dJ10_length_0 rfl ?_ | refine r_aload_nq dJ10_length_0 rfl ?_ | refine r_aload_nN dJ10_length_0 rfl ?_
  refine r_getfield 14 3 dJ10_length_1 rfl (Nat.le_of_ble_eq_true rfl) (lkA q392) (Or.inl rfl) (Or.inl ha) (by rfl) ?_
  exact r_ireturn dJ10_length_4 rfl (by first | rfl | exact bi_nar) (by first | exact ⟨rfl, rfl⟩ | rfl)

set_option maxHeartbeats 4000000 in
set_option maxRecDepth 100000 in
theorem sp_J11_length {G : GG} {h : HP} {a r N : Nat} {l : List Int32} (hS : SB h a r N l)  : Ct G 1 0 M_J11_length [.ref a] h (eQ (some (.int (nI l.length))) h) := by
  refine ct_intro my_J11_length (Nat.le_of_ble_eq_true rfl) ?_
  have ha := hS.choose_spec.choose_spec.1
  first | refine r_aload_n dJ11_length_0 rfl ?_ | refine r_aload_nq dJ11_length_0 rfl ?_ | refine r_aload_nN dJ11_length_0 rfl ?_
  refine r_invSU dJ11_length_1 (sp_J10_length hS) rfl mo_J10_length (Or.inl ha) rfl (lkA q788) (lkA q784) (lkA q401) (lkA q783) rfl (by decide +kernel) (lkA q78) mp_J10_length (Nat.le_of_ble_eq_true rfl) (Nat.le_of_ble_eq_true rfl) (Nat.le_of_ble_eq_true rfl) (kr_e ?_) kx_e
  exact r_ireturn dJ11_length_4 rfl (by first | rfl | exact bi_nar) (by first | exact ⟨rfl, rfl⟩ | rfl)

set_option maxHeartbeats 4000000 in
set_option maxRecDepth 100000 in
theorem sp_J10_charAt {G : GG} {h : HP} (hT : KT G) {a r N : Nat} {l : List Int32} (hS : SB h a r N l) {j : Nat} {i : Int32} (hj : i.toInt = (j : Int)) (hjl : j < l.length) : Ct G 2 0 M_J10_charAt [.ref a, .int i] h (eQ (some (.int (l.getD j 0))) h) := by
  refine ct_intro my_J10_charAt (Nat.le_of_ble_eq_true rfl) ?_
  obtain ⟨m, g, ha, hr, hl, hN, hg, hv⟩ := hS
  have hac : asc (l.getD j 0) := by rw [← hv j hjl]; exact hg j (by omega)
  first | refine r_aload_n dJ10_charAt_0 rfl ?_ | refine r_aload_nq dJ10_charAt_0 rfl ?_ | refine r_aload_nN dJ10_charAt_0 rfl ?_
  refine r_getfield 14 1 dJ10_charAt_1 rfl (Nat.le_of_ble_eq_true rfl) (lkA q389) (Or.inl rfl) (Or.inl ha) (by rfl) ?_
  refine r_istore_n dJ10_charAt_4 (Nat.le_of_ble_eq_true rfl) ?_
  first | refine r_aload_n dJ10_charAt_5 rfl ?_ | refine r_aload_nq dJ10_charAt_5 rfl ?_ | refine r_aload_nN dJ10_charAt_5 rfl ?_
  refine r_getfield 14 0 dJ10_charAt_6 rfl (Nat.le_of_ble_eq_true rfl) (lkA q388) (Or.inl rfl) (Or.inl ha) (by rfl) ?_
  first | refine r_astore_n dJ10_charAt_9 (Nat.le_of_ble_eq_true rfl) ?_ | refine r_astore_nq dJ10_charAt_9 (Nat.le_of_ble_eq_true rfl) ?_ | refine r_astore_nN dJ10_charAt_9 (Nat.le_of_ble_eq_true rfl) ?_
  first | refine r_aload_n dJ10_charAt_10 rfl ?_ | refine r_aload_nq dJ10_charAt_10 rfl ?_ | refine r_aload_nN dJ10_charAt_10 rfl ?_
  refine r_getfield 14 3 dJ10_charAt_11 rfl (Nat.le_of_ble_eq_true rfl) (lkA q392) (Or.inl rfl) (Or.inl ha) (by rfl) ?_
  first | refine r_aload_n dJ10_charAt_14 rfl ?_ | refine r_aload_nq dJ10_charAt_14 rfl ?_ | refine r_aload_nN dJ10_charAt_14 rfl ?_
  refine r_alenI _ (Nat.le_of_ble_eq_true rfl) dJ10_charAt_15 (Or.inl hr) rfl ?_
  refine r_iload_n dJ10_charAt_16 rfl ?_
  refine r_ishr dJ10_charAt_17 ?_
  rw [shr0]
  refine r_mmin dJ10_charAt_18 (lkA q1540) (lkA q290) (lkA q74) (lkA q291) (Nat.le_of_ble_eq_true rfl) (Nat.le_of_ble_eq_true rfl) ?_
  rw [min_i (by omega) (by omega), show min l.length N = l.length by omega]
  refine r_istore dJ10_charAt_21 (Nat.le_of_ble_eq_true rfl) ?_
  refine r_iload_n dJ10_charAt_23 rfl ?_
  refine r_iload dJ10_charAt_24 rfl ?_
  refine r_invS dJ10_charAt_26 (sp_J12_checkIndex hT (i := i) (n := nI l.length) (by omega) (by rw [nIn (by omega)]; omega)) rfl mo_J12_checkIndex (lkA q1541) (lkA q1447) (lkA q80) mp_J12_checkIndex (Nat.le_of_ble_eq_true rfl) (Nat.le_of_ble_eq_true rfl) (Nat.le_of_ble_eq_true rfl) (kr_e ?_) kx_e
  refine r_iload_n dJ10_charAt_29 rfl ?_
  refine r_if_ne 42 dJ10_charAt_30 rfl (fun c30 => absurd c30 (fun e => e rfl)) (fun c30 => ?_)
  first | refine r_aload_n dJ10_charAt_33 rfl ?_ | refine r_aload_nq dJ10_charAt_33 rfl ?_ | refine r_aload_nN dJ10_charAt_33 rfl ?_
  refine r_iload_n dJ10_charAt_34 rfl ?_
  refine r_baload (j) dJ10_charAt_35 (Or.inl hr) hj (by omega) rfl ?_
  refine r_sipush (v := 255) dJ10_charAt_36 rfl ?_
  refine r_iand dJ10_charAt_39 ?_
  refine r_i2c dJ10_charAt_40 ?_
  rw [hv j hjl, asc_c hac]
  exact r_ireturn dJ10_charAt_41 rfl (asc_chr hac) (by first | exact ⟨rfl, rfl⟩ | rfl)

set_option maxHeartbeats 4000000 in
set_option maxRecDepth 100000 in
theorem sp_J11_charAt {G : GG} {h : HP} (hT : KT G) {a r N : Nat} {l : List Int32} (hS : SB h a r N l) {j : Nat} {i : Int32} (hj : i.toInt = (j : Int)) (hjl : j < l.length) : Ct G 3 0 M_J11_charAt [.ref a, .int i] h (eQ (some (.int (l.getD j 0))) h) := by
  refine ct_intro my_J11_charAt (Nat.le_of_ble_eq_true rfl) ?_
  have hS0 := hS
  obtain ⟨m, g, ha, hr, hl, hN, hg, hv⟩ := hS
  have hac : asc (l.getD j 0) := by rw [← hv j hjl]; exact hg j (by omega)
  have hS := hS0
  first | refine r_aload_n dJ11_charAt_0 rfl ?_ | refine r_aload_nq dJ11_charAt_0 rfl ?_ | refine r_aload_nN dJ11_charAt_0 rfl ?_
  refine r_iload_n dJ11_charAt_1 rfl ?_
  refine r_invSU dJ11_charAt_2 (sp_J10_charAt hT hS hj hjl) rfl mo_J10_charAt (Or.inl ha) rfl (lkA q1537) (lkA q2247) (lkA q401) (lkA q1538) rfl (by decide +kernel) (lkA q78) mp_J10_charAt (Nat.le_of_ble_eq_true rfl) (Nat.le_of_ble_eq_true rfl) (Nat.le_of_ble_eq_true rfl) (kr_e ?_) kx_e
  exact r_ireturn dJ11_charAt_5 rfl (asc_chr hac) (by first | exact ⟨rfl, rfl⟩ | rfl)

set_option maxHeartbeats 4000000 in
set_option maxRecDepth 100000 in
theorem sp_J10_setLength {G : GG} {h : HP} {a r N : Nat} {l : List Int32} (hS : SB h a r N l)  : Ct G 4 301 M_J10_setLength [.ref a, .int 0] h (rQ (fun v h' => v = none ∧ SB h' a r N [] ∧ ∀ q b, q ≠ a → h q = some b → h' q = some b)) := by
  refine ct_intro my_J10_setLength (Nat.le_of_ble_eq_true rfl) ?_
  obtain ⟨m, g, ha, hr, hl, hN, hg, hv⟩ := hS
  have era : r ≠ a := ne_b ha hr (fun e => by cases e)
  refine r_iload_n dJ10_setLength_0 rfl ?_
  refine r_if_ge 13 dJ10_setLength_1 rfl (fun c1 => ?_) (fun c1 => absurd c1 (by decide))
  first | refine r_aload_n dJ10_setLength_13 rfl ?_ | refine r_aload_nq dJ10_setLength_13 rfl ?_ | refine r_aload_nN dJ10_setLength_13 rfl ?_
  refine r_iload_n dJ10_setLength_14 rfl ?_
  refine r_invVP dJ10_setLength_15 (sp_cap0 (k := 0) ha hr (Nat.zero_le _) hN) rfl mo_J10_ensureCapacityInternal (Or.inl ha) rfl (lkA q671) (lkA q673) q672 (lkA q692) rfl (lkA q78) mp_J10_ensureCapacityInternal (Nat.le_of_ble_eq_true rfl) (Nat.le_of_ble_eq_true rfl) (Nat.le_of_ble_eq_true rfl) (kr_e ?_) kx_e
  first | refine r_aload_n dJ10_setLength_18 rfl ?_ | refine r_aload_nq dJ10_setLength_18 rfl ?_ | refine r_aload_nN dJ10_setLength_18 rfl ?_
  refine r_getfield 14 3 dJ10_setLength_19 rfl (Nat.le_of_ble_eq_true rfl) (lkA q392) (Or.inl rfl) (Or.inl ha) (by rfl) ?_
  refine r_iload_n dJ10_setLength_22 rfl ?_
  refine r_icmp_ge 63 dJ10_setLength_23 rfl (fun c23 => ?_) (fun c23 => absurd c23 (by intro e; apply e; rw [Int32.le_iff_toInt_le, nIn (by omega)]; have h0 : (0 : Int32).toInt = 0 := rfl; omega))
  first | refine r_aload_n dJ10_setLength_63 rfl ?_ | refine r_aload_nq dJ10_setLength_63 rfl ?_ | refine r_aload_nN dJ10_setLength_63 rfl ?_
  refine r_getfield 14 3 dJ10_setLength_64 rfl (Nat.le_of_ble_eq_true rfl) (lkA q392) (Or.inl rfl) (Or.inl ha) (by rfl) ?_
  refine r_iload_n dJ10_setLength_67 rfl ?_
  refine r_icmp_le 76 dJ10_setLength_68 rfl (fun c68 => ?_) (fun c68 => ?_)
  · first | refine r_aload_n dJ10_setLength_76 rfl ?_ | refine r_aload_nq dJ10_setLength_76 rfl ?_ | refine r_aload_nN dJ10_setLength_76 rfl ?_
    refine r_iload_n dJ10_setLength_77 rfl ?_
    refine r_put 14 3 dJ10_setLength_78 rfl (Nat.le_of_ble_eq_true rfl) (lkA q392) (Or.inl rfl) rfl ha (by dsimp only [List.set]) (Nat.le_of_ble_eq_true rfl) rfl rfl (by first | exact hu_hu | exact rfl) ?_
    exact r_return dJ10_setLength_81 rfl ⟨rfl, ⟨_, g, hu_s, (hu_n era).trans hr, Nat.zero_le _, hN, hg, fun j hj => absurd hj (Nat.not_lt_zero _)⟩, fun q b hq hb => (hu_n hq).trans hb⟩
  · first | refine r_aload_n dJ10_setLength_71 rfl ?_ | refine r_aload_nq dJ10_setLength_71 rfl ?_ | refine r_aload_nN dJ10_setLength_71 rfl ?_
    refine r_iconst (v := 1) dJ10_setLength_72 rfl ?_
    refine r_put 14 2 dJ10_setLength_73 rfl (Nat.le_of_ble_eq_true rfl) (lkA q390) (Or.inl rfl) rfl ha (by dsimp only [List.set]) (Nat.le_of_ble_eq_true rfl) rfl rfl (by first | exact hu_hu | exact rfl) ?_
    first | refine r_aload_n dJ10_setLength_76 rfl ?_ | refine r_aload_nq dJ10_setLength_76 rfl ?_ | refine r_aload_nN dJ10_setLength_76 rfl ?_
    refine r_iload_n dJ10_setLength_77 rfl ?_
    refine r_put 14 3 dJ10_setLength_78 rfl (Nat.le_of_ble_eq_true rfl) (lkA q392) (Or.inl rfl) rfl hu_s (by dsimp only [List.set]) (Nat.le_of_ble_eq_true rfl) rfl rfl (by first | exact hu_hu | exact rfl) ?_
    exact r_return dJ10_setLength_81 rfl ⟨rfl, ⟨_, g, hu_s, (hu_n era).trans hr, Nat.zero_le _, hN, hg, fun j hj => absurd hj (Nat.not_lt_zero _)⟩, fun q b hq hb => (hu_n hq).trans hb⟩

set_option maxHeartbeats 4000000 in
set_option maxRecDepth 100000 in
theorem sp_J11_setLength {G : GG} {h : HP} {a r N : Nat} {l : List Int32} (hS : SB h a r N l)  : Ct G 5 301 M_J11_setLength [.ref a, .int 0] h (rQ (fun v h' => v = none ∧ SB h' a r N [] ∧ ∀ q b, q ≠ a → h q = some b → h' q = some b)) := by
  refine ct_intro my_J11_setLength (Nat.le_of_ble_eq_true rfl) ?_
  have ha := hS.choose_spec.choose_spec.1
  first | refine r_aload_n dJ11_setLength_0 rfl ?_ | refine r_aload_nq dJ11_setLength_0 rfl ?_ | refine r_aload_nN dJ11_setLength_0 rfl ?_
  refine r_iload_n dJ11_setLength_1 rfl ?_
  refine r_invSU dJ11_setLength_2 (sp_J10_setLength hS) rfl mo_J10_setLength (Or.inl ha) rfl (lkA q1705) (lkA q2249) (lkA q401) (lkA q1706) rfl (by decide +kernel) (lkA q78) mp_J10_setLength (Nat.le_of_ble_eq_true rfl) (Nat.le_of_ble_eq_true rfl) (Nat.le_of_ble_eq_true rfl) (kr_r (fun v9 h9 p9 => ?_)) kx_r
  obtain ⟨rfl, hq9⟩ := p9
  exact r_return dJ11_setLength_5 rfl ⟨rfl, hq9⟩

