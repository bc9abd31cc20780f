set_option maxRecDepth 100000
/-- an order done -/
def dO (w : Nat → Int32) (o : Ord1) : OpR := match o.1 with
  | 0 => oGoes w o.2.1 o.2.2.1
  | 1 => oRings w o.2.1 o.2.2.1 o.2.2.2
  | 2 => oPets w o.2.1
  | 3 => oTakes w o.2.1 o.2.2.1 o.2.2.2
  | 4 => oBack w o.2.1
  | 5 => oRenews w o.2.1
  | _ => oDay w
def dnQ (ad : Nat → Nat) (w : Nat → Int32) (h : HP) (r : OpR) : Oc → HP → Prop := fun o h' => match o with
  | .inl v => ∃ x, v = some (.int x) ∧ ((∃ w', r = oK x w' ∧ cP ad w h w' h') ∨ (x = -11 ∧ (∃ c, r = oC c) ∧ Ext h h'))
  | .inr q => ∃ a b, r = oR a b ∧ Ext h h' ∧ h' q = some (bRef a b)
theorem dn_of {ad : Nat → Nat} {w : Nat → Int32} {h h' : HP} {r : OpR} {q : Nat} (S0 : St h ad w) (p : oQ ad w h r (.inr q) h') : dnQ ad w h r (.inr q) h' := by
  obtain ⟨a, b, hr, h1, hx, hq, hqb, rfl⟩ := oQ_inr p
  exact ⟨a, b, hr, fun z y hb => cH_ext hx z y (by rw [← St_eq S0]; exact hb), (ov_n (ov_none hq).1).trans hqb⟩
set_option maxHeartbeats 4000000 in
set_option maxRecDepth 100000 in
theorem lp_does_0 {G : GG} {h : HP} (hT : KT G) {ka : Nat → Nat} (hKC : KC G ka) {ad : Nat → Nat} {w : Nat → Int32} (hK : KS G) (S0 : St h ad w) (I0 : cI ad w) {D9 : Int} (hI : Inv D9 w) {q : Nat} {a b c : Int32} (hq : h q = some (bOr ka (0, a, b, c))) : V G 8 M_X9_does 14 [(3, .ref (ka 0)), (2, .int (bi (isS w a))), (1, .ref (ad 0)), (0, .ref q)] [] h 60 (dnQ ad w h (dO w (0, a, b, c))) := by
  have I0 := I0
  obtain ⟨hw2, hw24, hw3, hw34, h6⟩ := inv_w hI
  obtain ⟨v9, y9, f9, hks, -⟩ := hKC.2 0 (Nat.le_of_ble_eq_true rfl)
  refine r_iconst (v := (-1)) dX9_does_14 rfl ?_
  refine r_istore dX9_does_15 (Nat.le_of_ble_eq_true rfl) ?_
  first | refine r_aload_n dX9_does_17 rfl ?_ | refine r_aload_nq dX9_does_17 rfl ?_ | refine r_aload_nN dX9_does_17 rfl ?_
  refine r_invV dX9_does_18 (sp_J12_hashCode (x := 102456) (Or.inr hks) (by decide)) rfl mo_J12_hashCode (Or.inr hks) rfl (lkA q1680) (lkA q1594) (lkA q1595) rfl (lkA q80) mp_J12_hashCode (Nat.le_of_ble_eq_true rfl) (Nat.le_of_ble_eq_true rfl) (Nat.le_of_ble_eq_true rfl) (kr_e ?_) kx_e
  refine r_lookup (off := 59) 80 dX9_does_21 (by decide) (by decide) rfl ?_
  first | refine r_aload_n dX9_does_80 rfl ?_ | refine r_aload_nq dX9_does_80 rfl ?_ | refine r_aload_nN dX9_does_80 rfl ?_
  refine r_ldcS dX9_does_81 (show Str G "BrushSellers$Order" 31 "go " (ka 0) from hKC.1 4 (Nat.le_of_ble_eq_true rfl)) ?_
  refine r_invV dX9_does_83 sp_J12_equals rfl mo_J12_equals (Or.inr hks) rfl (lkA q1682) (lkA q1643) (lkA q1644) rfl (lkA q80) mp_J12_equals (Nat.le_of_ble_eq_true rfl) (Nat.le_of_ble_eq_true rfl) (Nat.le_of_ble_eq_true rfl) (kr_e ?_) kx_e
  refine r_if_eq 167 dX9_does_86 rfl (fun c86 => absurd c86 (by decide)) (fun c86 => ?_)
  refine r_iconst (v := 0) dX9_does_89 rfl ?_
  refine r_istore dX9_does_90 (Nat.le_of_ble_eq_true rfl) ?_
  refine r_goto 167 dX9_does_92 rfl ?_
  refine r_iload dX9_does_167 rfl ?_
  refine r_tableIn (off := 39) 208 dX9_does_169 (by decide) (by decide) rfl rfl ?_
  refine r_iload_n dX9_does_208 rfl ?_
  refine r_if_eq 237 dX9_does_209 rfl (fun c1 => ?_) (fun c1 => ?_)
  · refine r_bipush (v := (-11)) dX9_does_237 rfl ?_
    exact r_ireturn dX9_does_239 rfl rfl ⟨-11, rfl, Or.inr ⟨rfl, ⟨-11, by show oGoes w a b = _; unfold oGoes; rw [if_neg (fun e => by rw [bi_0.mp c1] at e; exact absurd e.1 (by decide))]⟩, Ext.rf⟩⟩
  · first | refine r_aload_n dX9_does_212 rfl ?_ | refine r_aload_nq dX9_does_212 rfl ?_ | refine r_aload_nN dX9_does_212 rfl ?_
    refine r_getfield 9 2 dX9_does_213 rfl (Nat.le_of_ble_eq_true rfl) (lkA q1580) (Or.inl rfl) (Or.inl hq) (by rfl) ?_
    refine r_invSN dX9_does_216 (sp_X0_isHouse ) rfl mo_X0_isHouse (lkT q1688 rfl) (lkA q1132) rfl (lkA q64) mp_X0_isHouse (Nat.le_of_ble_eq_true rfl) (Nat.le_of_ble_eq_true rfl) (Nat.le_of_ble_eq_true rfl) (kr_e ?_) kx_e
    refine r_if_eq 237 dX9_does_219 rfl (fun c2 => ?_) (fun c2 => ?_)
    · refine r_bipush (v := (-11)) dX9_does_237 rfl ?_
      exact r_ireturn dX9_does_239 rfl rfl ⟨-11, rfl, Or.inr ⟨rfl, ⟨-11, by show oGoes w a b = _; unfold oGoes; rw [if_neg (fun e => by rw [bi_0.mp c2] at e; exact absurd e.2 (by decide))]⟩, Ext.rf⟩⟩
    · first | refine r_aload_n dX9_does_222 rfl ?_ | refine r_aload_nq dX9_does_222 rfl ?_ | refine r_aload_nN dX9_does_222 rfl ?_
      first | refine r_aload_n dX9_does_223 rfl ?_ | refine r_aload_nq dX9_does_223 rfl ?_ | refine r_aload_nN dX9_does_223 rfl ?_
      refine r_getfield 9 1 dX9_does_224 rfl (Nat.le_of_ble_eq_true rfl) (lkA q1578) (Or.inl rfl) (Or.inl hq) (by rfl) ?_
      first | refine r_aload_n dX9_does_227 rfl ?_ | refine r_aload_nq dX9_does_227 rfl ?_ | refine r_aload_nN dX9_does_227 rfl ?_
      refine r_getfield 9 2 dX9_does_228 rfl (Nat.le_of_ble_eq_true rfl) (lkA q1580) (Or.inl rfl) (Or.inl hq) (by rfl) ?_
      refine r_invV dX9_does_231 (fl_o S0 (sp_X1_goes (h := h) I0 hK (isS_of hI c1) (isH_of c2) (hI.2.2.2.2.2.1 (tn a) (isS_of hI c1).2.2.2).2.1 hI.2.1)) rfl mo_X1_goes (Or.inl (s_0 S0)) rfl (lkA q1689) (lkA q1255) (lkA q1256) rfl (lkA q65) mp_X1_goes (Nat.le_of_ble_eq_true rfl) (Nat.le_of_ble_eq_true rfl) (Nat.le_of_ble_eq_true rfl) (fun v9 h9 p9 => ?_) (fun q9 h9 ci9 fs9 p9 hq9 => (r_out hq9 rfl (dn_of S0 p9)))
      obtain ⟨x9, w9, hr9, rfl, hP9⟩ := oQ_inl p9
      refine r_goto 239 dX9_does_234 rfl ?_
      exact r_ireturn dX9_does_239 rfl rfl ⟨x9, rfl, Or.inl ⟨w9, hr9, hP9⟩⟩

set_option maxHeartbeats 4000000 in
set_option maxRecDepth 100000 in
theorem lp_does_1 {G : GG} {h : HP} (hT : KT G) {ka : Nat → Nat} (hKC : KC G ka) {ad : Nat → Nat} {w : Nat → Int32} (hK : KS G) (S0 : St h ad w) (I0 : cI ad w) {D9 : Int} (hI : Inv D9 w) {q : Nat} {a b c : Int32} (hq : h q = some (bOr ka (1, a, b, c))) : V G 8 M_X9_does 14 [(3, .ref (ka 1)), (2, .int (bi (isS w a))), (1, .ref (ad 0)), (0, .ref q)] [] h 60 (dnQ ad w h (dO w (1, a, b, c))) := by
  have I0 := I0
  obtain ⟨hw2, hw24, hw3, hw34, h6⟩ := inv_w hI
  obtain ⟨v9, y9, f9, hks, -⟩ := hKC.2 1 (Nat.le_of_ble_eq_true rfl)
  refine r_iconst (v := (-1)) dX9_does_14 rfl ?_
  refine r_istore dX9_does_15 (Nat.le_of_ble_eq_true rfl) ?_
  first | refine r_aload_n dX9_does_17 rfl ?_ | refine r_aload_nq dX9_does_17 rfl ?_ | refine r_aload_nN dX9_does_17 rfl ?_
  refine r_invV dX9_does_18 (sp_J12_hashCode (x := 108518384) (Or.inr hks) (by decide)) rfl mo_J12_hashCode (Or.inr hks) rfl (lkA q1680) (lkA q1594) (lkA q1595) rfl (lkA q80) mp_J12_hashCode (Nat.le_of_ble_eq_true rfl) (Nat.le_of_ble_eq_true rfl) (Nat.le_of_ble_eq_true rfl) (kr_e ?_) kx_e
  refine r_lookup (off := 74) 95 dX9_does_21 (by decide) (by decide) rfl ?_
  first | refine r_aload_n dX9_does_95 rfl ?_ | refine r_aload_nq dX9_does_95 rfl ?_ | refine r_aload_nN dX9_does_95 rfl ?_
  refine r_ldcS dX9_does_96 (show Str G "BrushSellers$Order" 37 "ring " (ka 1) from hKC.1 5 (Nat.le_of_ble_eq_true rfl)) ?_
  refine r_invV dX9_does_98 sp_J12_equals rfl mo_J12_equals (Or.inr hks) rfl (lkA q1682) (lkA q1643) (lkA q1644) rfl (lkA q80) mp_J12_equals (Nat.le_of_ble_eq_true rfl) (Nat.le_of_ble_eq_true rfl) (Nat.le_of_ble_eq_true rfl) (kr_e ?_) kx_e
  refine r_if_eq 167 dX9_does_101 rfl (fun c101 => absurd c101 (by decide)) (fun c101 => ?_)
  refine r_iconst (v := 1) dX9_does_104 rfl ?_
  refine r_istore dX9_does_105 (Nat.le_of_ble_eq_true rfl) ?_
  refine r_goto 167 dX9_does_107 rfl ?_
  refine r_iload dX9_does_167 rfl ?_
  refine r_tableIn (off := 71) 240 dX9_does_169 (by decide) (by decide) rfl rfl ?_
  refine r_iload_n dX9_does_240 rfl ?_
  refine r_if_eq 283 dX9_does_241 rfl (fun c1 => ?_) (fun c1 => ?_)
  · refine r_bipush (v := (-11)) dX9_does_283 rfl ?_
    exact r_ireturn dX9_does_285 rfl rfl ⟨-11, rfl, Or.inr ⟨rfl, ⟨-11, by show oRings w a b c = _; unfold oRings; rw [if_neg (fun e => by rw [bi_0.mp c1] at e; exact absurd e.1 (by decide))]⟩, Ext.rf⟩⟩
  · first | refine r_aload_n dX9_does_244 rfl ?_ | refine r_aload_nq dX9_does_244 rfl ?_ | refine r_aload_nN dX9_does_244 rfl ?_
    refine r_getfield 9 2 dX9_does_245 rfl (Nat.le_of_ble_eq_true rfl) (lkA q1580) (Or.inl rfl) (Or.inl hq) (by rfl) ?_
    refine r_invSN dX9_does_248 (sp_X0_isBristle ) rfl mo_X0_isBristle (lkT q1690 rfl) (lkA q1147) rfl (lkA q64) mp_X0_isBristle (Nat.le_of_ble_eq_true rfl) (Nat.le_of_ble_eq_true rfl) (Nat.le_of_ble_eq_true rfl) (kr_e ?_) kx_e
    refine r_if_eq 283 dX9_does_251 rfl (fun c2 => ?_) (fun c2 => ?_)
    · refine r_bipush (v := (-11)) dX9_does_283 rfl ?_
      exact r_ireturn dX9_does_285 rfl rfl ⟨-11, rfl, Or.inr ⟨rfl, ⟨-11, by show oRings w a b c = _; unfold oRings; rw [if_neg (fun e => by rw [bi_0.mp c2] at e; exact absurd e.2 (by decide))]⟩, Ext.rf⟩⟩
    · first | refine r_aload_n dX9_does_254 rfl ?_ | refine r_aload_nq dX9_does_254 rfl ?_ | refine r_aload_nN dX9_does_254 rfl ?_
      refine r_getfield 9 3 dX9_does_255 rfl (Nat.le_of_ble_eq_true rfl) (lkA q1582) (Or.inl rfl) (Or.inl hq) (by rfl) ?_
      refine r_invSN dX9_does_258 (sp_X0_isPrice ) rfl mo_X0_isPrice (lkT q1691 rfl) (lkA q1324) rfl (lkA q64) mp_X0_isPrice (Nat.le_of_ble_eq_true rfl) (Nat.le_of_ble_eq_true rfl) (Nat.le_of_ble_eq_true rfl) (kr_e ?_) kx_e
      refine r_if_eq 283 dX9_does_261 rfl (fun c3 => ?_) (fun c3 => ?_)
      · refine r_bipush (v := (-11)) dX9_does_283 rfl ?_
        exact r_ireturn dX9_does_285 rfl rfl ⟨-11, rfl, Or.inr ⟨rfl, ⟨-12, by show oRings w a b c = _; unfold oRings; rw [if_pos ⟨bi_n0.mp c1, bi_n0.mp c2⟩, if_neg (by rw [bi_0.mp c3]; decide)]⟩, Ext.rf⟩⟩
      · first | refine r_aload_n dX9_does_264 rfl ?_ | refine r_aload_nq dX9_does_264 rfl ?_ | refine r_aload_nN dX9_does_264 rfl ?_
        first | refine r_aload_n dX9_does_265 rfl ?_ | refine r_aload_nq dX9_does_265 rfl ?_ | refine r_aload_nN dX9_does_265 rfl ?_
        refine r_getfield 9 1 dX9_does_266 rfl (Nat.le_of_ble_eq_true rfl) (lkA q1578) (Or.inl rfl) (Or.inl hq) (by rfl) ?_
        first | refine r_aload_n dX9_does_269 rfl ?_ | refine r_aload_nq dX9_does_269 rfl ?_ | refine r_aload_nN dX9_does_269 rfl ?_
        refine r_getfield 9 2 dX9_does_270 rfl (Nat.le_of_ble_eq_true rfl) (lkA q1580) (Or.inl rfl) (Or.inl hq) (by rfl) ?_
        first | refine r_aload_n dX9_does_273 rfl ?_ | refine r_aload_nq dX9_does_273 rfl ?_ | refine r_aload_nN dX9_does_273 rfl ?_
        refine r_getfield 9 3 dX9_does_274 rfl (Nat.le_of_ble_eq_true rfl) (lkA q1582) (Or.inl rfl) (Or.inl hq) (by rfl) ?_
        refine r_invV dX9_does_277 (fl_o S0 (ring_y (isB_of c2).2.1 (sp_X1_rings (h := h) I0 hK (z := c) (isS_of hI c1) (tn b) (isB_of c2).2.2 (by rw [← i32_of (isB_of c2).2.1]; exact (isB_of c2).1) (bi_n0.mp c3) (tn (w (17 + 9 * tn a + 1))) (tn_g (hI.2.2.2.2.2.1 (tn a) (isS_of hI c1).2.2.2).2.1).1 (tn_g (hI.2.2.2.2.2.1 (tn a) (isS_of hI c1).2.2.2).2.1).2 hI.2.1 ((hI.2.2.2.2.2.1 (tn a) (isS_of hI c1).2.2.2).2.2.2 (tn b) (isB_of c2).2.2).1 (hI.2.2.2.2.2.2.1 _ (tn_g (hI.2.2.2.2.2.1 (tn a) (isS_of hI c1).2.2.2).2.1).2).2.2 hw24 hw3 hw34))) rfl mo_X1_rings (Or.inl (s_0 S0)) rfl (lkA q1692) (lkA q1359) (lkA q1360) rfl (lkA q65) mp_X1_rings (Nat.le_of_ble_eq_true rfl) (Nat.le_of_ble_eq_true rfl) (Nat.le_of_ble_eq_true rfl) (fun v9 h9 p9 => ?_) (fun q9 h9 ci9 fs9 p9 hq9 => (r_out hq9 rfl (dn_of S0 p9)))
        obtain ⟨x9, w9, hr9, rfl, hP9⟩ := oQ_inl p9
        refine r_goto 285 dX9_does_280 rfl ?_
        exact r_ireturn dX9_does_285 rfl rfl ⟨x9, rfl, Or.inl ⟨w9, hr9, hP9⟩⟩

set_option maxHeartbeats 4000000 in
set_option maxRecDepth 100000 in
theorem lp_does_2 {G : GG} {h : HP} (hT : KT G) {ka : Nat → Nat} (hKC : KC G ka) {ad : Nat → Nat} {w : Nat → Int32} (hK : KS G) (S0 : St h ad w) (I0 : cI ad w) {D9 : Int} (hI : Inv D9 w) {q : Nat} {a b c : Int32} (hq : h q = some (bOr ka (2, a, b, c))) : V G 8 M_X9_does 14 [(3, .ref (ka 2)), (2, .int (bi (isS w a))), (1, .ref (ad 0)), (0, .ref q)] [] h 60 (dnQ ad w h (dO w (2, a, b, c))) := by
  have I0 := I0
  obtain ⟨hw2, hw24, hw3, hw34, h6⟩ := inv_w hI
  obtain ⟨v9, y9, f9, hks, -⟩ := hKC.2 2 (Nat.le_of_ble_eq_true rfl)
  refine r_iconst (v := (-1)) dX9_does_14 rfl ?_
  refine r_istore dX9_does_15 (Nat.le_of_ble_eq_true rfl) ?_
  first | refine r_aload_n dX9_does_17 rfl ?_ | refine r_aload_nq dX9_does_17 rfl ?_ | refine r_aload_nN dX9_does_17 rfl ?_
  refine r_invV dX9_does_18 (sp_J12_hashCode (x := 3437281) (Or.inr hks) (by decide)) rfl mo_J12_hashCode (Or.inr hks) rfl (lkA q1680) (lkA q1594) (lkA q1595) rfl (lkA q80) mp_J12_hashCode (Nat.le_of_ble_eq_true rfl) (Nat.le_of_ble_eq_true rfl) (Nat.le_of_ble_eq_true rfl) (kr_e ?_) kx_e
  refine r_lookup (off := 89) 110 dX9_does_21 (by decide) (by decide) rfl ?_
  first | refine r_aload_n dX9_does_110 rfl ?_ | refine r_aload_nq dX9_does_110 rfl ?_ | refine r_aload_nN dX9_does_110 rfl ?_
  refine r_ldcS dX9_does_111 (show Str G "BrushSellers$Order" 39 "pet " (ka 2) from hKC.1 6 (Nat.le_of_ble_eq_true rfl)) ?_
  refine r_invV dX9_does_113 sp_J12_equals rfl mo_J12_equals (Or.inr hks) rfl (lkA q1682) (lkA q1643) (lkA q1644) rfl (lkA q80) mp_J12_equals (Nat.le_of_ble_eq_true rfl) (Nat.le_of_ble_eq_true rfl) (Nat.le_of_ble_eq_true rfl) (kr_e ?_) kx_e
  refine r_if_eq 167 dX9_does_116 rfl (fun c116 => absurd c116 (by decide)) (fun c116 => ?_)
  refine r_iconst (v := 2) dX9_does_119 rfl ?_
  refine r_istore dX9_does_120 (Nat.le_of_ble_eq_true rfl) ?_
  refine r_goto 167 dX9_does_122 rfl ?_
  refine r_iload dX9_does_167 rfl ?_
  refine r_tableIn (off := 117) 286 dX9_does_169 (by decide) (by decide) rfl rfl ?_
  refine r_iload_n dX9_does_286 rfl ?_
  refine r_if_eq 301 dX9_does_287 rfl (fun c1 => ?_) (fun c1 => ?_)
  · refine r_bipush (v := (-11)) dX9_does_301 rfl ?_
    exact r_ireturn dX9_does_303 rfl rfl ⟨-11, rfl, Or.inr ⟨rfl, ⟨-11, by show oPets w a = _; unfold oPets; rw [if_neg (by rw [bi_0.mp c1]; decide)]⟩, Ext.rf⟩⟩
  · first | refine r_aload_n dX9_does_290 rfl ?_ | refine r_aload_nq dX9_does_290 rfl ?_ | refine r_aload_nN dX9_does_290 rfl ?_
    first | refine r_aload_n dX9_does_291 rfl ?_ | refine r_aload_nq dX9_does_291 rfl ?_ | refine r_aload_nN dX9_does_291 rfl ?_
    refine r_getfield 9 1 dX9_does_292 rfl (Nat.le_of_ble_eq_true rfl) (lkA q1578) (Or.inl rfl) (Or.inl hq) (by rfl) ?_
    refine r_invV dX9_does_295 (fl_o S0 (sp_X1_pets (h := h) I0 hK (isS_of hI c1) (tn (w (17 + 9 * tn a + 1))) (tn_g (hI.2.2.2.2.2.1 (tn a) (isS_of hI c1).2.2.2).2.1).1 (tn_g (hI.2.2.2.2.2.1 (tn a) (isS_of hI c1).2.2.2).2.1).2 (inv_md hI (tn_g (hI.2.2.2.2.2.1 (tn a) (isS_of hI c1).2.2.2).2.1).2))) rfl mo_X1_pets (Or.inl (s_0 S0)) rfl (lkA q1693) (lkA q1295) (lkA q1296) rfl (lkA q65) mp_X1_pets (Nat.le_of_ble_eq_true rfl) (Nat.le_of_ble_eq_true rfl) (Nat.le_of_ble_eq_true rfl) (fun v9 h9 p9 => ?_) (fun q9 h9 ci9 fs9 p9 hq9 => (r_out hq9 rfl (dn_of S0 p9)))
    obtain ⟨x9, w9, hr9, rfl, hP9⟩ := oQ_inl p9
    refine r_goto 303 dX9_does_298 rfl ?_
    exact r_ireturn dX9_does_303 rfl rfl ⟨x9, rfl, Or.inl ⟨w9, hr9, hP9⟩⟩

set_option maxHeartbeats 4000000 in
set_option maxRecDepth 100000 in
theorem lp_does_3 {G : GG} {h : HP} (hT : KT G) {ka : Nat → Nat} (hKC : KC G ka) {ad : Nat → Nat} {w : Nat → Int32} (hK : KS G) (S0 : St h ad w) (I0 : cI ad w) {D9 : Int} (hI : Inv D9 w) {q : Nat} {a b c : Int32} (hq : h q = some (bOr ka (3, a, b, c))) : V G 8 M_X9_does 14 [(3, .ref (ka 3)), (2, .int (bi (isS w a))), (1, .ref (ad 0)), (0, .ref q)] [] h 60 (dnQ ad w h (dO w (3, a, b, c))) := by
  have I0 := I0
  obtain ⟨hw2, hw24, hw3, hw34, h6⟩ := inv_w hI
  obtain ⟨v9, y9, f9, hks, -⟩ := hKC.2 3 (Nat.le_of_ble_eq_true rfl)
  refine r_iconst (v := (-1)) dX9_does_14 rfl ?_
  refine r_istore dX9_does_15 (Nat.le_of_ble_eq_true rfl) ?_
  first | refine r_aload_n dX9_does_17 rfl ?_ | refine r_aload_nq dX9_does_17 rfl ?_ | refine r_aload_nN dX9_does_17 rfl ?_
  refine r_invV dX9_does_18 (sp_J12_hashCode (x := 110124153) (Or.inr hks) (by decide)) rfl mo_J12_hashCode (Or.inr hks) rfl (lkA q1680) (lkA q1594) (lkA q1595) rfl (lkA q80) mp_J12_hashCode (Nat.le_of_ble_eq_true rfl) (Nat.le_of_ble_eq_true rfl) (Nat.le_of_ble_eq_true rfl) (kr_e ?_) kx_e
  refine r_lookup (off := 104) 125 dX9_does_21 (by decide) (by decide) rfl ?_
  first | refine r_aload_n dX9_does_125 rfl ?_ | refine r_aload_nq dX9_does_125 rfl ?_ | refine r_aload_nN dX9_does_125 rfl ?_
  refine r_ldcS dX9_does_126 (show Str G "BrushSellers$Order" 41 "take " (ka 3) from hKC.1 7 (Nat.le_of_ble_eq_true rfl)) ?_
  refine r_invV dX9_does_128 sp_J12_equals rfl mo_J12_equals (Or.inr hks) rfl (lkA q1682) (lkA q1643) (lkA q1644) rfl (lkA q80) mp_J12_equals (Nat.le_of_ble_eq_true rfl) (Nat.le_of_ble_eq_true rfl) (Nat.le_of_ble_eq_true rfl) (kr_e ?_) kx_e
  refine r_if_eq 167 dX9_does_131 rfl (fun c131 => absurd c131 (by decide)) (fun c131 => ?_)
  refine r_iconst (v := 3) dX9_does_134 rfl ?_
  refine r_istore dX9_does_135 (Nat.le_of_ble_eq_true rfl) ?_
  refine r_goto 167 dX9_does_137 rfl ?_
  refine r_iload dX9_does_167 rfl ?_
  refine r_tableIn (off := 135) 304 dX9_does_169 (by decide) (by decide) rfl rfl ?_
  refine r_iload_n dX9_does_304 rfl ?_
  refine r_if_eq 347 dX9_does_305 rfl (fun c1 => ?_) (fun c1 => ?_)
  · refine r_bipush (v := (-11)) dX9_does_347 rfl ?_
    exact r_ireturn dX9_does_349 rfl rfl ⟨-11, rfl, Or.inr ⟨rfl, ⟨-11, by show oTakes w a b c = _; unfold oTakes; rw [if_neg (fun e => by rw [bi_0.mp c1] at e; exact absurd e.1 (by decide))]⟩, Ext.rf⟩⟩
  · first | refine r_aload_n dX9_does_308 rfl ?_ | refine r_aload_nq dX9_does_308 rfl ?_ | refine r_aload_nN dX9_does_308 rfl ?_
    refine r_getfield 9 2 dX9_does_309 rfl (Nat.le_of_ble_eq_true rfl) (lkA q1580) (Or.inl rfl) (Or.inl hq) (by rfl) ?_
    refine r_invSN dX9_does_312 (sp_X0_isBristle ) rfl mo_X0_isBristle (lkT q1690 rfl) (lkA q1147) rfl (lkA q64) mp_X0_isBristle (Nat.le_of_ble_eq_true rfl) (Nat.le_of_ble_eq_true rfl) (Nat.le_of_ble_eq_true rfl) (kr_e ?_) kx_e
    refine r_if_eq 347 dX9_does_315 rfl (fun c2 => ?_) (fun c2 => ?_)
    · refine r_bipush (v := (-11)) dX9_does_347 rfl ?_
      exact r_ireturn dX9_does_349 rfl rfl ⟨-11, rfl, Or.inr ⟨rfl, ⟨-11, by show oTakes w a b c = _; unfold oTakes; rw [if_neg (fun e => by rw [bi_0.mp c2] at e; exact absurd e.2 (by decide))]⟩, Ext.rf⟩⟩
    · first | refine r_aload_n dX9_does_318 rfl ?_ | refine r_aload_nq dX9_does_318 rfl ?_ | refine r_aload_nN dX9_does_318 rfl ?_
      refine r_getfield 9 3 dX9_does_319 rfl (Nat.le_of_ble_eq_true rfl) (lkA q1582) (Or.inl rfl) (Or.inl hq) (by rfl) ?_
      refine r_invSN dX9_does_322 (sp_X0_areTaken ) rfl mo_X0_areTaken (lkT q1694 rfl) (lkA q1167) rfl (lkA q64) mp_X0_areTaken (Nat.le_of_ble_eq_true rfl) (Nat.le_of_ble_eq_true rfl) (Nat.le_of_ble_eq_true rfl) (kr_e ?_) kx_e
      refine r_if_eq 347 dX9_does_325 rfl (fun c3 => ?_) (fun c3 => ?_)
      · refine r_bipush (v := (-11)) dX9_does_347 rfl ?_
        exact r_ireturn dX9_does_349 rfl rfl ⟨-11, rfl, Or.inr ⟨rfl, ⟨-12, by show oTakes w a b c = _; unfold oTakes; rw [if_pos ⟨bi_n0.mp c1, bi_n0.mp c2⟩, if_neg (by rw [bi_0.mp c3]; decide)]⟩, Ext.rf⟩⟩
      · first | refine r_aload_n dX9_does_328 rfl ?_ | refine r_aload_nq dX9_does_328 rfl ?_ | refine r_aload_nN dX9_does_328 rfl ?_
        first | refine r_aload_n dX9_does_329 rfl ?_ | refine r_aload_nq dX9_does_329 rfl ?_ | refine r_aload_nN dX9_does_329 rfl ?_
        refine r_getfield 9 1 dX9_does_330 rfl (Nat.le_of_ble_eq_true rfl) (lkA q1578) (Or.inl rfl) (Or.inl hq) (by rfl) ?_
        first | refine r_aload_n dX9_does_333 rfl ?_ | refine r_aload_nq dX9_does_333 rfl ?_ | refine r_aload_nN dX9_does_333 rfl ?_
        refine r_getfield 9 2 dX9_does_334 rfl (Nat.le_of_ble_eq_true rfl) (lkA q1580) (Or.inl rfl) (Or.inl hq) (by rfl) ?_
        first | refine r_aload_n dX9_does_337 rfl ?_ | refine r_aload_nq dX9_does_337 rfl ?_ | refine r_aload_nN dX9_does_337 rfl ?_
        refine r_getfield 9 3 dX9_does_338 rfl (Nat.le_of_ble_eq_true rfl) (lkA q1582) (Or.inl rfl) (Or.inl hq) (by rfl) ?_
        refine r_invV dX9_does_341 (fl_o S0 (sp_X1_takes (h := h) I0 hK (isS_of hI c1) (isB_of c2) (bi_n0.mp c3) (isTk_r (bi_n0.mp c3)) ((hI.2.2.2.2.2.1 (tn a) (isS_of hI c1).2.2.2).2.2.2 (tn b) (isB_of c2).2.2))) rfl mo_X1_takes (Or.inl (s_0 S0)) rfl (lkA q1695) (lkA q1170) (lkA q1171) rfl (lkA q65) mp_X1_takes (Nat.le_of_ble_eq_true rfl) (Nat.le_of_ble_eq_true rfl) (Nat.le_of_ble_eq_true rfl) (fun v9 h9 p9 => ?_) (fun q9 h9 ci9 fs9 p9 hq9 => (r_out hq9 rfl (dn_of S0 p9)))
        obtain ⟨x9, w9, hr9, rfl, hP9⟩ := oQ_inl p9
        refine r_goto 349 dX9_does_344 rfl ?_
        exact r_ireturn dX9_does_349 rfl rfl ⟨x9, rfl, Or.inl ⟨w9, hr9, hP9⟩⟩

set_option maxHeartbeats 4000000 in
set_option maxRecDepth 100000 in
theorem lp_does_4 {G : GG} {h : HP} (hT : KT G) {ka : Nat → Nat} (hKC : KC G ka) {ad : Nat → Nat} {w : Nat → Int32} (hK : KS G) (S0 : St h ad w) (I0 : cI ad w) {D9 : Int} (hI : Inv D9 w) {q : Nat} {a b c : Int32} (hq : h q = some (bOr ka (4, a, b, c))) : V G 8 M_X9_does 14 [(3, .ref (ka 4)), (2, .int (bi (isS w a))), (1, .ref (ad 0)), (0, .ref q)] [] h 60 (dnQ ad w h (dO w (4, a, b, c))) := by
  have I0 := I0
  obtain ⟨hw2, hw24, hw3, hw34, h6⟩ := inv_w hI
  obtain ⟨v9, y9, f9, hks, -⟩ := hKC.2 4 (Nat.le_of_ble_eq_true rfl)
  refine r_iconst (v := (-1)) dX9_does_14 rfl ?_
  refine r_istore dX9_does_15 (Nat.le_of_ble_eq_true rfl) ?_
  first | refine r_aload_n dX9_does_17 rfl ?_ | refine r_aload_nq dX9_does_17 rfl ?_ | refine r_aload_nN dX9_does_17 rfl ?_
  refine r_invV dX9_does_18 (sp_J12_hashCode (x := 93493273) (Or.inr hks) (by decide)) rfl mo_J12_hashCode (Or.inr hks) rfl (lkA q1680) (lkA q1594) (lkA q1595) rfl (lkA q80) mp_J12_hashCode (Nat.le_of_ble_eq_true rfl) (Nat.le_of_ble_eq_true rfl) (Nat.le_of_ble_eq_true rfl) (kr_e ?_) kx_e
  refine r_lookup (off := 119) 140 dX9_does_21 (by decide) (by decide) rfl ?_
  first | refine r_aload_n dX9_does_140 rfl ?_ | refine r_aload_nq dX9_does_140 rfl ?_ | refine r_aload_nN dX9_does_140 rfl ?_
  refine r_ldcS dX9_does_141 (show Str G "BrushSellers$Order" 43 "back " (ka 4) from hKC.1 8 (Nat.le_of_ble_eq_true rfl)) ?_
  refine r_invV dX9_does_143 sp_J12_equals rfl mo_J12_equals (Or.inr hks) rfl (lkA q1682) (lkA q1643) (lkA q1644) rfl (lkA q80) mp_J12_equals (Nat.le_of_ble_eq_true rfl) (Nat.le_of_ble_eq_true rfl) (Nat.le_of_ble_eq_true rfl) (kr_e ?_) kx_e
  refine r_if_eq 167 dX9_does_146 rfl (fun c146 => absurd c146 (by decide)) (fun c146 => ?_)
  refine r_iconst (v := 4) dX9_does_149 rfl ?_
  refine r_istore dX9_does_150 (Nat.le_of_ble_eq_true rfl) ?_
  refine r_goto 167 dX9_does_152 rfl ?_
  refine r_iload dX9_does_167 rfl ?_
  refine r_tableIn (off := 181) 350 dX9_does_169 (by decide) (by decide) rfl rfl ?_
  first | refine r_aload_n dX9_does_350 rfl ?_ | refine r_aload_nq dX9_does_350 rfl ?_ | refine r_aload_nN dX9_does_350 rfl ?_
  first | refine r_aload_n dX9_does_351 rfl ?_ | refine r_aload_nq dX9_does_351 rfl ?_ | refine r_aload_nN dX9_does_351 rfl ?_
  refine r_getfield 9 1 dX9_does_352 rfl (Nat.le_of_ble_eq_true rfl) (lkA q1578) (Or.inl rfl) (Or.inl hq) (by rfl) ?_
  refine r_invV dX9_does_355 (fl_e S0 (sp_X1_isSale (h := h) I0 (x := a))) rfl mo_X1_isSale (Or.inl (s_0 S0)) rfl (lkA q1696) (lkA q1395) (lkA q1396) rfl (lkA q65) mp_X1_isSale (Nat.le_of_ble_eq_true rfl) (Nat.le_of_ble_eq_true rfl) (Nat.le_of_ble_eq_true rfl) (kr_e ?_) kx_e
  refine r_if_eq 372 dX9_does_358 rfl (fun c1 => ?_) (fun c1 => ?_)
  · refine r_bipush (v := (-11)) dX9_does_372 rfl ?_
    exact r_ireturn dX9_does_374 rfl rfl ⟨-11, rfl, Or.inr ⟨rfl, ⟨-11, by show oBack w a = _; unfold oBack; rw [if_neg (by rw [bi_0.mp c1]; decide)]⟩, Ext.rf⟩⟩
  · first | refine r_aload_n dX9_does_361 rfl ?_ | refine r_aload_nq dX9_does_361 rfl ?_ | refine r_aload_nN dX9_does_361 rfl ?_
    first | refine r_aload_n dX9_does_362 rfl ?_ | refine r_aload_nq dX9_does_362 rfl ?_ | refine r_aload_nN dX9_does_362 rfl ?_
    refine r_getfield 9 1 dX9_does_363 rfl (Nat.le_of_ble_eq_true rfl) (lkA q1578) (Or.inl rfl) (Or.inl hq) (by rfl) ?_
    refine r_invV dX9_does_366 (fl_o S0 (sp_X1_takesBack (h := h) I0 hK (isL_of hI c1) (tn (w (133 + 7 * tn a))) (tn (w (133 + 7 * tn a + 1))) (tn (w (133 + 7 * tn a + 2))) (inv_l hI (isL_of hI c1).2.2.2).1.1 (inv_l hI (isL_of hI c1).2.2.2).2.1.1 (inv_l hI (isL_of hI c1).2.2.2).2.2.1.1 (inv_l hI (isL_of hI c1).2.2.2).1.2.1 (inv_l hI (isL_of hI c1).2.2.2).2.1.2 (inv_l hI (isL_of hI c1).2.2.2).2.2.1.2 (inv_l hI (isL_of hI c1).2.2.2).1.2.2 hw34 (inv_l hI (isL_of hI c1).2.2.2).2.2.2)) rfl mo_X1_takesBack (Or.inl (s_0 S0)) rfl (lkA q1697) (lkA q1399) (lkA q1400) rfl (lkA q65) mp_X1_takesBack (Nat.le_of_ble_eq_true rfl) (Nat.le_of_ble_eq_true rfl) (Nat.le_of_ble_eq_true rfl) (fun v9 h9 p9 => ?_) (fun q9 h9 ci9 fs9 p9 hq9 => (r_out hq9 rfl (dn_of S0 p9)))
    obtain ⟨x9, w9, hr9, rfl, hP9⟩ := oQ_inl p9
    refine r_goto 374 dX9_does_369 rfl ?_
    exact r_ireturn dX9_does_374 rfl rfl ⟨x9, rfl, Or.inl ⟨w9, hr9, hP9⟩⟩

set_option maxHeartbeats 4000000 in
set_option maxRecDepth 100000 in
theorem lp_does_5 {G : GG} {h : HP} (hT : KT G) {ka : Nat → Nat} (hKC : KC G ka) {ad : Nat → Nat} {w : Nat → Int32} (hK : KS G) (S0 : St h ad w) (I0 : cI ad w) {D9 : Int} (hI : Inv D9 w) {q : Nat} {a b c : Int32} (hq : h q = some (bOr ka (5, a, b, c))) : V G 8 M_X9_does 14 [(3, .ref (ka 5)), (2, .int (bi (isS w a))), (1, .ref (ad 0)), (0, .ref q)] [] h 60 (dnQ ad w h (dO w (5, a, b, c))) := by
  have I0 := I0
  obtain ⟨hw2, hw24, hw3, hw34, h6⟩ := inv_w hI
  obtain ⟨v9, y9, f9, hks, -⟩ := hKC.2 5 (Nat.le_of_ble_eq_true rfl)
  refine r_iconst (v := (-1)) dX9_does_14 rfl ?_
  refine r_istore dX9_does_15 (Nat.le_of_ble_eq_true rfl) ?_
  first | refine r_aload_n dX9_does_17 rfl ?_ | refine r_aload_nq dX9_does_17 rfl ?_ | refine r_aload_nN dX9_does_17 rfl ?_
  refine r_invV dX9_does_18 (sp_J12_hashCode (x := -896786014) (Or.inr hks) (by decide)) rfl mo_J12_hashCode (Or.inr hks) rfl (lkA q1680) (lkA q1594) (lkA q1595) rfl (lkA q80) mp_J12_hashCode (Nat.le_of_ble_eq_true rfl) (Nat.le_of_ble_eq_true rfl) (Nat.le_of_ble_eq_true rfl) (kr_e ?_) kx_e
  refine r_lookup (off := 134) 155 dX9_does_21 (by decide) (by decide) rfl ?_
  first | refine r_aload_n dX9_does_155 rfl ?_ | refine r_aload_nq dX9_does_155 rfl ?_ | refine r_aload_nN dX9_does_155 rfl ?_
  refine r_ldcS dX9_does_156 (show Str G "BrushSellers$Order" 45 "soles " (ka 5) from hKC.1 9 (Nat.le_of_ble_eq_true rfl)) ?_
  refine r_invV dX9_does_158 sp_J12_equals rfl mo_J12_equals (Or.inr hks) rfl (lkA q1682) (lkA q1643) (lkA q1644) rfl (lkA q80) mp_J12_equals (Nat.le_of_ble_eq_true rfl) (Nat.le_of_ble_eq_true rfl) (Nat.le_of_ble_eq_true rfl) (kr_e ?_) kx_e
  refine r_if_eq 167 dX9_does_161 rfl (fun c161 => absurd c161 (by decide)) (fun c161 => ?_)
  refine r_iconst (v := 5) dX9_does_164 rfl ?_
  refine r_istore dX9_does_165 (Nat.le_of_ble_eq_true rfl) ?_
  refine r_iload dX9_does_167 rfl ?_
  refine r_tableIn (off := 206) 375 dX9_does_169 (by decide) (by decide) rfl rfl ?_
  refine r_iload_n dX9_does_375 rfl ?_
  refine r_if_eq 390 dX9_does_376 rfl (fun c1 => ?_) (fun c1 => ?_)
  · refine r_bipush (v := (-11)) dX9_does_390 rfl ?_
    exact r_ireturn dX9_does_392 rfl rfl ⟨-11, rfl, Or.inr ⟨rfl, ⟨-11, by show oRenews w a = _; unfold oRenews; rw [if_neg (by rw [bi_0.mp c1]; decide)]⟩, Ext.rf⟩⟩
  · first | refine r_aload_n dX9_does_379 rfl ?_ | refine r_aload_nq dX9_does_379 rfl ?_ | refine r_aload_nN dX9_does_379 rfl ?_
    first | refine r_aload_n dX9_does_380 rfl ?_ | refine r_aload_nq dX9_does_380 rfl ?_ | refine r_aload_nN dX9_does_380 rfl ?_
    refine r_getfield 9 1 dX9_does_381 rfl (Nat.le_of_ble_eq_true rfl) (lkA q1578) (Or.inl rfl) (Or.inl hq) (by rfl) ?_
    refine r_invV dX9_does_384 (fl_o S0 (sp_X1_soles (h := h) I0 hK (isS_of hI c1))) rfl mo_X1_soles (Or.inl (s_0 S0)) rfl (lkA q1698) (lkA q1287) (lkA q1288) rfl (lkA q65) mp_X1_soles (Nat.le_of_ble_eq_true rfl) (Nat.le_of_ble_eq_true rfl) (Nat.le_of_ble_eq_true rfl) (fun v9 h9 p9 => ?_) (fun q9 h9 ci9 fs9 p9 hq9 => (r_out hq9 rfl (dn_of S0 p9)))
    obtain ⟨x9, w9, hr9, rfl, hP9⟩ := oQ_inl p9
    refine r_goto 392 dX9_does_387 rfl ?_
    exact r_ireturn dX9_does_392 rfl rfl ⟨x9, rfl, Or.inl ⟨w9, hr9, hP9⟩⟩

set_option maxHeartbeats 4000000 in
set_option maxRecDepth 100000 in
theorem lp_does_6 {G : GG} {h : HP} (hT : KT G) {ka : Nat → Nat} (hKC : KC G ka) {ad : Nat → Nat} {w : Nat → Int32} (hK : KS G) (S0 : St h ad w) (I0 : cI ad w) {D9 : Int} (hI : Inv D9 w) {q : Nat} {a b c : Int32} (hq : h q = some (bOr ka (6, a, b, c))) : V G 8 M_X9_does 14 [(3, .ref (ka 6)), (2, .int (bi (isS w a))), (1, .ref (ad 0)), (0, .ref q)] [] h 60 (dnQ ad w h (dO w (6, a, b, c))) := by
  have I0 := I0
  obtain ⟨hw2, hw24, hw3, hw34, h6⟩ := inv_w hI
  obtain ⟨v9, y9, f9, hks, -⟩ := hKC.2 6 (Nat.le_of_ble_eq_true rfl)
  refine r_iconst (v := (-1)) dX9_does_14 rfl ?_
  refine r_istore dX9_does_15 (Nat.le_of_ble_eq_true rfl) ?_
  first | refine r_aload_n dX9_does_17 rfl ?_ | refine r_aload_nq dX9_does_17 rfl ?_ | refine r_aload_nN dX9_does_17 rfl ?_
  refine r_invV dX9_does_18 (sp_J12_hashCode (x := 99228) (Or.inr hks) (by decide)) rfl mo_J12_hashCode (Or.inr hks) rfl (lkA q1680) (lkA q1594) (lkA q1595) rfl (lkA q80) mp_J12_hashCode (Nat.le_of_ble_eq_true rfl) (Nat.le_of_ble_eq_true rfl) (Nat.le_of_ble_eq_true rfl) (kr_e ?_) kx_e
  refine r_lookup (off := 146) 167 dX9_does_21 (by decide) (by decide) rfl ?_
  refine r_iload dX9_does_167 rfl ?_
  refine r_tableOut 393 dX9_does_169 (Or.inl (by decide)) rfl ?_
  first | refine r_aload_n dX9_does_393 rfl ?_ | refine r_aload_nq dX9_does_393 rfl ?_ | refine r_aload_nN dX9_does_393 rfl ?_
  refine r_invV dX9_does_394 (fl_o S0 ((sp_X1_dayEnds (h := h) I0 (fun m hm => ⟨(hI.2.2.2.2.2.2.1 m hm).1, (hI.2.2.2.2.2.2.1 m hm).2.1⟩)).mono (day_oQ I0))) rfl mo_X1_dayEnds (Or.inl (s_0 S0)) rfl (lkA q1699) (lkA q1418) (lkA q1419) rfl (lkA q65) mp_X1_dayEnds (Nat.le_of_ble_eq_true rfl) (Nat.le_of_ble_eq_true rfl) (Nat.le_of_ble_eq_true rfl) (fun v9 h9 p9 => ?_) (fun q9 h9 ci9 fs9 p9 hq9 => False.elim p9)
  obtain ⟨x9, w9, hr9, rfl, hP9⟩ := oQ_inl p9
  exact r_ireturn dX9_does_397 rfl rfl ⟨x9, rfl, Or.inl ⟨w9, hr9, hP9⟩⟩

set_option maxHeartbeats 4000000 in
set_option maxRecDepth 100000 in
theorem sp_X9_does {G : GG} {h : HP} (hT : KT G) {ka : Nat → Nat} (hKC : KC G ka) {ad : Nat → Nat} {w : Nat → Int32} (hK : KS G) (S0 : St h ad w) (I0 : cI ad w) {D9 : Int} (hI : Inv D9 w) {q : Nat} {o9 : Ord1} (hk7 : o9.1 < 7) (hq : h q = some (bOr ka o9))  : Ct G 8 60 M_X9_does [.ref q, .ref (ad 0)] h (dnQ ad w h (dO w o9)) := by
  refine ct_intro my_X9_does (Nat.le_of_ble_eq_true rfl) ?_
  first | refine r_aload_n dX9_does_0 rfl ?_ | refine r_aload_nq dX9_does_0 rfl ?_ | refine r_aload_nN dX9_does_0 rfl ?_
  first | refine r_aload_n dX9_does_1 rfl ?_ | refine r_aload_nq dX9_does_1 rfl ?_ | refine r_aload_nN dX9_does_1 rfl ?_
  refine r_getfield 9 1 dX9_does_2 rfl (Nat.le_of_ble_eq_true rfl) (lkA q1578) (Or.inl rfl) (Or.inl hq) (by rfl) ?_
  refine r_invV dX9_does_5 (fl_e S0 (sp_X1_isSeller (h := h) I0 (x := o9.2.1))) rfl mo_X1_isSeller (Or.inl (s_0 S0)) rfl (lkA q1679) (lkA q1162) (lkA q1163) rfl (lkA q65) mp_X1_isSeller (Nat.le_of_ble_eq_true rfl) (Nat.le_of_ble_eq_true rfl) (Nat.le_of_ble_eq_true rfl) (kr_e ?_) kx_e
  refine r_istore_n dX9_does_8 (Nat.le_of_ble_eq_true rfl) ?_
  first | refine r_aload_n dX9_does_9 rfl ?_ | refine r_aload_nq dX9_does_9 rfl ?_ | refine r_aload_nN dX9_does_9 rfl ?_
  refine r_getfield 9 0 dX9_does_10 rfl (Nat.le_of_ble_eq_true rfl) (lkA q1576) (Or.inl rfl) (Or.inl hq) (by rfl) ?_
  first | refine r_astore_n dX9_does_13 (Nat.le_of_ble_eq_true rfl) ?_ | refine r_astore_nq dX9_does_13 (Nat.le_of_ble_eq_true rfl) ?_ | refine r_astore_nN dX9_does_13 (Nat.le_of_ble_eq_true rfl) ?_
  obtain ⟨k, a, b, c⟩ := o9
  have hk : k = 0 ∨ k = 1 ∨ k = 2 ∨ k = 3 ∨ k = 4 ∨ k = 5 ∨ k = 6 := by
    have : k < 7 := hk7
    omega
  rcases hk with rfl | rfl | rfl | rfl | rfl | rfl | rfl
  · refine V_loc (L' := [(3, .ref (ka 0)), (2, .int (bi (isS w a))), (1, .ref (ad 0)), (0, .ref q)]) ⟨rfl, rfl, rfl, rfl, trivial⟩ ?_
    exact (lp_does_0 hT hKC hK S0 I0 hI hq).less (Nat.le_of_ble_eq_true rfl)
  · refine V_loc (L' := [(3, .ref (ka 1)), (2, .int (bi (isS w a))), (1, .ref (ad 0)), (0, .ref q)]) ⟨rfl, rfl, rfl, rfl, trivial⟩ ?_
    exact (lp_does_1 hT hKC hK S0 I0 hI hq).less (Nat.le_of_ble_eq_true rfl)
  · refine V_loc (L' := [(3, .ref (ka 2)), (2, .int (bi (isS w a))), (1, .ref (ad 0)), (0, .ref q)]) ⟨rfl, rfl, rfl, rfl, trivial⟩ ?_
    exact (lp_does_2 hT hKC hK S0 I0 hI hq).less (Nat.le_of_ble_eq_true rfl)
  · refine V_loc (L' := [(3, .ref (ka 3)), (2, .int (bi (isS w a))), (1, .ref (ad 0)), (0, .ref q)]) ⟨rfl, rfl, rfl, rfl, trivial⟩ ?_
    exact (lp_does_3 hT hKC hK S0 I0 hI hq).less (Nat.le_of_ble_eq_true rfl)
  · refine V_loc (L' := [(3, .ref (ka 4)), (2, .int (bi (isS w a))), (1, .ref (ad 0)), (0, .ref q)]) ⟨rfl, rfl, rfl, rfl, trivial⟩ ?_
    exact (lp_does_4 hT hKC hK S0 I0 hI hq).less (Nat.le_of_ble_eq_true rfl)
  · refine V_loc (L' := [(3, .ref (ka 5)), (2, .int (bi (isS w a))), (1, .ref (ad 0)), (0, .ref q)]) ⟨rfl, rfl, rfl, rfl, trivial⟩ ?_
    exact (lp_does_5 hT hKC hK S0 I0 hI hq).less (Nat.le_of_ble_eq_true rfl)
  · refine V_loc (L' := [(3, .ref (ka 6)), (2, .int (bi (isS w a))), (1, .ref (ad 0)), (0, .ref q)]) ⟨rfl, rfl, rfl, rfl, trivial⟩ ?_
    exact (lp_does_6 hT hKC hK S0 I0 hI hq).less (Nat.le_of_ble_eq_true rfl)

def idQ (ad : Nat → Nat) (w : Nat → Int32) (h : HP) (r : OpR) : Oc → HP → Prop := rQ (fun v h' => (∃ x w', r = oK x w' ∧ v = some (.int 1) ∧ cP ad w h w' h') ∨ ((∀ x w', r ≠ oK x w') ∧ v = some (.int 0) ∧ Ext h h'))
theorem oC_ne {c x : Int32} {w : Nat → Int32} : (oC c : OpR) ≠ oK x w := fun e => by cases e
theorem oR_ne {a b x : Int32} {w : Nat → Int32} : (oR a b : OpR) ≠ oK x w := fun e => by cases e
theorem nc_RW {G : GG} (hG : GOk G) : va_Nc "BrushSellers$Refused" "BrushSellers$Wrong" (gS G) := va_Nc.of (args := gB G) (flat_of_before _ hG.2.1 (.not (.castable "BrushSellers$Refused" "BrushSellers$Wrong")) (by decide +kernel))
set_option maxHeartbeats 4000000 in
set_option maxRecDepth 100000 in
theorem sp_X9_isDone {G : GG} {h : HP} (hT : KT G) {ka : Nat → Nat} (hKC : KC G ka) {ad : Nat → Nat} {w : Nat → Int32} (hK : KS G) (S0 : St h ad w) (I0 : cI ad w) {D9 : Int} (hI : Inv D9 w) {q : Nat} {o9 : Ord1} (hk7 : o9.1 < 7) (hq : h q = some (bOr ka o9)) (hnn : ∀ x w', dO w o9 = oK x w' → 0 ≤ x.toInt)  : Ct G 9 60 M_X9_isDone [.ref q, .ref (ad 0)] h (idQ ad w h (dO w o9)) := by
  refine ct_intro my_X9_isDone (Nat.le_of_ble_eq_true rfl) ?_
  first | refine r_aload_n dX9_isDone_0 rfl ?_ | refine r_aload_nq dX9_isDone_0 rfl ?_ | refine r_aload_nN dX9_isDone_0 rfl ?_
  first | refine r_aload_n dX9_isDone_1 rfl ?_ | refine r_aload_nq dX9_isDone_1 rfl ?_ | refine r_aload_nN dX9_isDone_1 rfl ?_
  refine r_invV dX9_isDone_2 (sp_X9_does hT hKC hK S0 I0 hI hk7 hq) rfl mo_X9_does (Or.inl hq) rfl (lkA q1675) (lkA q1677) (lkA qs29) rfl (lkA q104) mp_X9_does (Nat.le_of_ble_eq_true rfl) (Nat.le_of_ble_eq_true rfl) (Nat.le_of_ble_eq_true rfl) (fun v9 h9 p9 => ?_) (fun q9 h9 ci9 fs9 p9 hq9 => ?_)
  rotate_left
  · obtain ⟨a9, b9, hr9, hx9, hqb⟩ := p9
    refine r_catch hqb rfl [] _ [] rfl (fun _ h => by cases h) rfl (by decide) (lkA q1674) (lkT q1055 rfl) ?_
    first | refine r_astore_n dX9_isDone_14 (Nat.le_of_ble_eq_true rfl) ?_ | refine r_astore_nq dX9_isDone_14 (Nat.le_of_ble_eq_true rfl) ?_ | refine r_astore_nN dX9_isDone_14 (Nat.le_of_ble_eq_true rfl) ?_
    refine r_iconst (v := 0) dX9_isDone_15 rfl ?_
    exact r_ireturn dX9_isDone_16 rfl (by first | rfl | exact bi_nar) (Or.inr ⟨fun x w1 e => oR_ne (hr9.symm.trans e), rfl, hx9⟩)
  obtain ⟨x, rfl, hx9⟩ := p9
  refine r_if_lt 12 dX9_isDone_5 rfl (fun c5 => ?_) (fun c5 => ?_)
  · refine r_iconst (v := 0) dX9_isDone_12 rfl ?_
    exact r_ireturn dX9_isDone_13 rfl (by first | rfl | exact bi_nar) (by
    rcases hx9 with ⟨w1, hr9, hP9⟩ | ⟨rfl, ⟨c, hr9⟩, hx9⟩
    · have := hnn x w1 hr9
      rw [Int32.lt_iff_toInt_lt] at c5
      exact absurd c5 (Int.not_lt.mpr this)
    · exact Or.inr ⟨fun x w1 e => oC_ne (hr9.symm.trans e), rfl, hx9⟩)
  · refine r_iconst (v := 1) dX9_isDone_8 rfl ?_
    refine r_goto 13 dX9_isDone_9 rfl ?_
    exact r_ireturn dX9_isDone_13 rfl (by first | rfl | exact bi_nar) (by
    rcases hx9 with ⟨w1, hr9, hP9⟩ | ⟨rfl, ⟨c, hr9⟩, hx9⟩
    · exact Or.inl ⟨x, w1, hr9, rfl, hP9⟩
    · exact absurd c5 (by decide))

