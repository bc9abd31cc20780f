set_option maxRecDepth 100000
set_option maxHeartbeats 4000000 in
set_option maxRecDepth 100000 in
theorem sp_J12_hashCode {G : GG} {h : HP} {s v : Nat} {x : Int32} {y : Value} (hs : Has G h s (bO 15 [.ref v, .int 0, .int x, y])) (hx : ¬ x = 0) : Ct G 0 0 M_J12_hashCode [.ref s] h (eQ (some (.int x)) h) := by
  refine ct_intro my_J12_hashCode (Nat.le_of_ble_eq_true rfl) ?_
  first | refine r_aload_n dJ12_hashCode_0 rfl ?_ | refine r_aload_nq dJ12_hashCode_0 rfl ?_ | refine r_aload_nN dJ12_hashCode_0 rfl ?_
  refine r_getfield 15 2 dJ12_hashCode_1 rfl (Nat.le_of_ble_eq_true rfl) (lkA q815) (Or.inl rfl) hs (by rfl) ?_
  refine r_istore_n dJ12_hashCode_4 (Nat.le_of_ble_eq_true rfl) ?_
  refine r_iload_n dJ12_hashCode_5 rfl ?_
  refine r_if_ne 58 dJ12_hashCode_6 rfl (fun c6 => ?_) (fun c6 => absurd c6 (fun e => hx e))
  refine r_iload_n dJ12_hashCode_58 rfl ?_
  exact r_ireturn dJ12_hashCode_59 rfl rfl (by first | exact ⟨rfl, rfl⟩ | rfl)

set_option maxHeartbeats 4000000 in
set_option maxRecDepth 100000 in
theorem sp_J12_equals {G : GG} {h : HP} {s : Nat} : Ct G 0 0 M_J12_equals [.ref s, .ref s] h (eQ (some (.int 1)) h) := by
  refine ct_intro my_J12_equals (Nat.le_of_ble_eq_true rfl) ?_
  first | refine r_aload_n dJ12_equals_0 rfl ?_ | refine r_aload_nq dJ12_equals_0 rfl ?_ | refine r_aload_nN dJ12_equals_0 rfl ?_
  first | refine r_aload_n dJ12_equals_1 rfl ?_ | refine r_aload_nq dJ12_equals_1 rfl ?_ | refine r_aload_nN dJ12_equals_1 rfl ?_
  refine r_acmp_ne (x := some s) (y := some s) 7 dJ12_equals_2 rfl (fun c2 => absurd c2 (fun e => e rfl)) (fun c2 => ?_)
  refine r_iconst (v := 1) dJ12_equals_5 rfl ?_
  exact r_ireturn dJ12_equals_6 rfl (by first | rfl | exact bi_nar) (by first | exact ⟨rfl, rfl⟩ | rfl)

set_option maxHeartbeats 4000000 in
set_option maxRecDepth 100000 in
theorem sp_X9_init {G : GG} {h : HP} {q s : Nat} (hq : h q = some (bO 9 [.null, .int 0, .int 0, .int 0])) : Ct G 1 0 M_X9_init [.ref q, .ref s] h (eQ none (hu h q (bO 9 [.ref s, .int 0, .int 0, .int 0]))) := by
  refine ct_intro my_X9_init (Nat.le_of_ble_eq_true rfl) ?_
  first | refine r_aload_n dX9_init_0 rfl ?_ | refine r_aload_nq dX9_init_0 rfl ?_ | refine r_aload_nN dX9_init_0 rfl ?_
  refine r_objinit (w1 := .tt) dX9_init_1 (lkA q1575) (lkA q112) (lkA q113) (Nat.le_of_ble_eq_true rfl) (Nat.le_of_ble_eq_true rfl) ?_
  first | refine r_aload_n dX9_init_4 rfl ?_ | refine r_aload_nq dX9_init_4 rfl ?_ | refine r_aload_nN dX9_init_4 rfl ?_
  first | refine r_aload_n dX9_init_5 rfl ?_ | refine r_aload_nq dX9_init_5 rfl ?_ | refine r_aload_nN dX9_init_5 rfl ?_
  refine r_putF 9 0 dX9_init_6 rfl (Nat.le_of_ble_eq_true rfl) (lkA q1576) rfl rfl rfl hq (by dsimp only [List.set]) (Nat.le_of_ble_eq_true rfl) rfl rfl (by first | exact hu_hu | exact rfl) ?_
  exact r_return dX9_init_9 rfl (by first | exact ⟨rfl, rfl⟩ | rfl)

theorem fWds_e {ka : Nat → Nat} : va_up (va_up (va_up (va_up (va_up (va_up (va_up (fun _ => none) 0 (some (ka 0))) 1 (some (ka 1))) 2 (some (ka 2))) 3 (some (ka 3))) 4 (some (ka 4))) 5 (some (ka 5))) 6 (some (ka 6)) = fWds ka := by
  funext j
  match j with
  | 0 => rfl
  | 1 => rfl
  | 2 => rfl
  | 3 => rfl
  | 4 => rfl
  | 5 => rfl
  | 6 => rfl
  | n + 7 =>
    have e : ∀ k, k < 7 → n + 7 ≠ k := fun k hk => by omega
    rw [va_up_n (e 6 (by decide)), va_up_n (e 5 (by decide)), va_up_n (e 4 (by decide)), va_up_n (e 3 (by decide)), va_up_n (e 2 (by decide)), va_up_n (e 1 (by decide)), va_up_n (e 0 (by decide))]
    exact (if_neg (by omega)).symm
theorem RH_q {h : HP} {q rd wa tx p : Nat} {Y Z : Bd} (e : q ≠ rd) : hu (RH (hu h q Y) rd wa tx p) q Z = RH (hu h q Z) rd wa tx p := by
  rw [hu_c (Ne.symm e), hu_hu]
theorem RH_n {h : HP} {q rd wa tx p : Nat} {Y : Bd} (e : q ≠ rd) : hu (RH h rd wa tx p) q Y = RH (hu h q Y) rd wa tx p := hu_c (Ne.symm e)
theorem pb_s {α β : Type} {x : Nat × Option α} {f : Nat → α → Nat × Option β} {a : α} (h : x.2 = some a) : pb x f = f x.1 a := by
  unfold pb
  rw [h]
theorem pb_n {α β : Type} {x : Nat × Option α} {f : Nat → α → Nat × Option β} (h : x.2 = none) : pb x f = (x.1, none) := by
  unfold pb
  rw [h]
abbrev bOr (ka : Nat → Nat) (a : Ord1) : Bd := bO 9 [.ref (ka a.1), .int a.2.1, .int a.2.2.1, .int a.2.2.2]
def poQ (ka : Nat → Nat) (h : HP) (rd wa tx : Nat) (b : Nat × Option Ord1) : Oc → HP → Prop := fun o h' => match o with
  | .inl v => ∃ a q, b.2 = some a ∧ v = some (.ref q) ∧ h q = none ∧ q ≠ rd ∧ h' = RH (hu h q (bOr ka a)) rd wa tx b.1
  | .inr q => b.2 = none ∧ wrE h rd wa tx b.1 q h'
theorem pA_0 {T : List Int32} {p : Nat} : pA T 0 p = pb (pN T 1 p) fun p a => pb (pB T 62 2 p) fun p b => (p, some (0, a, b, 0)) := rfl
theorem pA_1 {T : List Int32} {p : Nat} : pA T 1 p = pb (pN T 1 p) fun p a => pb (pB T 32 1 p) fun p b => pb (pB T 61 2 p) fun p c => (p, some (1, a, b, c)) := rfl
theorem pA_2 {T : List Int32} {p : Nat} : pA T 2 p = pb (pN T 1 p) fun p a => (p, some (2, a, 0, 0)) := rfl
theorem pA_3 {T : List Int32} {p : Nat} : pA T 3 p = pb (pN T 1 p) fun p a => pb (pB T 32 1 p) fun p b => pb (pS T p) fun p c => (p, some (3, a, b, c)) := rfl
theorem pA_4 {T : List Int32} {p : Nat} : pA T 4 p = pb (pN T 2 p) fun p a => (p, some (4, a, 0, 0)) := rfl
theorem pA_5 {T : List Int32} {p : Nat} : pA T 5 p = pb (pN T 1 p) fun p a => (p, some (5, a, 0, 0)) := rfl
theorem pA_6 {T : List Int32} {p : Nat} : pA T 6 p = (p, some (6, 0, 0, 0)) := rfl
theorem pW_7 {T : List Int32} {p k : Nat} (h : (pW T p).2 = some k) : k < 7 := by
  unfold pW at h
  cases e : fK (hereT T p) with
  | none => rw [e] at h; cases h
  | some j =>
    rw [e] at h
    have h2 : (if (pX T (kch j) (kch j).length 0 p).2 = true then some j else none) = some k := h
    by_cases e2 : (pX T (kch j) (kch j).length 0 p).2 = true
    · rw [if_pos e2] at h2
      rw [← Option.some.inj h2]
      exact (fK_i e).1
    · rw [if_neg e2] at h2; cases h2
set_option maxHeartbeats 4000000 in
set_option maxRecDepth 100000 in
theorem sp_X8_init {G : GG} {h : HP} (hT : KT G) {ka : Nat → Nat} (hKC : KC G ka) {rd tx : Nat} : Ct G 1 9 M_X8_init [.ref rd, .ref tx] (hu h rd (bO 8 [.null, .null, .int 0])) (rQ (fun v h' => v = none ∧ ∃ wa, h wa = none ∧ wa ≠ rd ∧ h' = RH (hu h wa (bR 4 7 (fWds ka))) rd wa tx 0)) := by
  refine ct_intro my_X8_init (Nat.le_of_ble_eq_true rfl) ?_
  obtain ⟨v0, y0, f0, e0, -⟩ := hKC.2 0 (Nat.le_of_ble_eq_true rfl)
  obtain ⟨v1, y1, f1, e1, -⟩ := hKC.2 1 (Nat.le_of_ble_eq_true rfl)
  obtain ⟨v2, y2, f2, e2, -⟩ := hKC.2 2 (Nat.le_of_ble_eq_true rfl)
  obtain ⟨v3, y3, f3, e3, -⟩ := hKC.2 3 (Nat.le_of_ble_eq_true rfl)
  obtain ⟨v4, y4, f4, e4, -⟩ := hKC.2 4 (Nat.le_of_ble_eq_true rfl)
  obtain ⟨v5, y5, f5, e5, -⟩ := hKC.2 5 (Nat.le_of_ble_eq_true rfl)
  obtain ⟨v6, y6, f6, e6, -⟩ := hKC.2 6 (Nat.le_of_ble_eq_true rfl)
  first | refine r_aload_n dX8_init_0 rfl ?_ | refine r_aload_nq dX8_init_0 rfl ?_ | refine r_aload_nN dX8_init_0 rfl ?_
  refine r_objinit (w1 := .tt) dX8_init_1 (lkA q1460) (lkA q112) (lkA q113) (Nat.le_of_ble_eq_true rfl) (Nat.le_of_ble_eq_true rfl) ?_
  first | refine r_aload_n dX8_init_4 rfl ?_ | refine r_aload_nq dX8_init_4 rfl ?_ | refine r_aload_nN dX8_init_4 rfl ?_
  refine r_bipush (v := 7) dX8_init_5 rfl ?_
  refine r_newaR (t := 4) 7 (Nat.le_of_ble_eq_true rfl) rfl dX8_init_7 (lkA q1461) (lkT q1462 rfl) rfl (Nat.le_of_ble_eq_true rfl) (Nat.le_of_ble_eq_true rfl) (fun wa hwa => ?_)
  refine r_dup dX8_init_10 rfl ?_
  refine r_iconst (v := 0) dX8_init_11 rfl ?_
  refine r_ldcS dX8_init_12 (show Str G "BrushSellers$Reader" 11 "go " (ka 0) from hKC.1 10 (Nat.le_of_ble_eq_true rfl)) ?_
  refine r_aastore (t := 4) 0 (by decide) rfl dX8_init_14 hu_s (Or.inr e0) rfl (Or.inl rfl) rfl (Nat.le_of_ble_eq_true rfl) ?_
  rw [hu_hu]
  refine r_dup dX8_init_15 rfl ?_
  refine r_iconst (v := 1) dX8_init_16 rfl ?_
  refine r_ldcS dX8_init_17 (show Str G "BrushSellers$Reader" 13 "ring " (ka 1) from hKC.1 11 (Nat.le_of_ble_eq_true rfl)) ?_
  refine r_aastore (t := 4) 1 (by decide) rfl dX8_init_19 hu_s (Or.inr e1) rfl (Or.inl rfl) rfl (Nat.le_of_ble_eq_true rfl) ?_
  rw [hu_hu]
  refine r_dup dX8_init_20 rfl ?_
  refine r_iconst (v := 2) dX8_init_21 rfl ?_
  refine r_ldcS dX8_init_22 (show Str G "BrushSellers$Reader" 15 "pet " (ka 2) from hKC.1 12 (Nat.le_of_ble_eq_true rfl)) ?_
  refine r_aastore (t := 4) 2 (by decide) rfl dX8_init_24 hu_s (Or.inr e2) rfl (Or.inl rfl) rfl (Nat.le_of_ble_eq_true rfl) ?_
  rw [hu_hu]
  refine r_dup dX8_init_25 rfl ?_
  refine r_iconst (v := 3) dX8_init_26 rfl ?_
  refine r_ldcS dX8_init_27 (show Str G "BrushSellers$Reader" 17 "take " (ka 3) from hKC.1 13 (Nat.le_of_ble_eq_true rfl)) ?_
  refine r_aastore (t := 4) 3 (by decide) rfl dX8_init_29 hu_s (Or.inr e3) rfl (Or.inl rfl) rfl (Nat.le_of_ble_eq_true rfl) ?_
  rw [hu_hu]
  refine r_dup dX8_init_30 rfl ?_
  refine r_iconst (v := 4) dX8_init_31 rfl ?_
  refine r_ldcS dX8_init_32 (show Str G "BrushSellers$Reader" 19 "back " (ka 4) from hKC.1 14 (Nat.le_of_ble_eq_true rfl)) ?_
  refine r_aastore (t := 4) 4 (by decide) rfl dX8_init_34 hu_s (Or.inr e4) rfl (Or.inl rfl) rfl (Nat.le_of_ble_eq_true rfl) ?_
  rw [hu_hu]
  refine r_dup dX8_init_35 rfl ?_
  refine r_iconst (v := 5) dX8_init_36 rfl ?_
  refine r_ldcS dX8_init_37 (show Str G "BrushSellers$Reader" 21 "soles " (ka 5) from hKC.1 15 (Nat.le_of_ble_eq_true rfl)) ?_
  refine r_aastore (t := 4) 5 (by decide) rfl dX8_init_39 hu_s (Or.inr e5) rfl (Or.inl rfl) rfl (Nat.le_of_ble_eq_true rfl) ?_
  rw [hu_hu]
  refine r_dup dX8_init_40 rfl ?_
  refine r_bipush (v := 6) dX8_init_41 rfl ?_
  refine r_ldcS dX8_init_43 (show Str G "BrushSellers$Reader" 23 "day" (ka 6) from hKC.1 16 (Nat.le_of_ble_eq_true rfl)) ?_
  refine r_aastore (t := 4) 6 (by decide) rfl dX8_init_45 hu_s (Or.inr e6) rfl (Or.inl rfl) rfl (Nat.le_of_ble_eq_true rfl) ?_
  rw [hu_hu, fWds_e]
  refine r_putF 8 0 dX8_init_46 rfl (Nat.le_of_ble_eq_true rfl) (lkA q1470) rfl rfl rfl (hu_o hwa hu_s) (by dsimp only [List.set]) (Nat.le_of_ble_eq_true rfl) rfl rfl (by first | exact hu_hu | exact rfl) ?_
  first | refine r_aload_n dX8_init_49 rfl ?_ | refine r_aload_nq dX8_init_49 rfl ?_ | refine r_aload_nN dX8_init_49 rfl ?_
  first | refine r_aload_n dX8_init_50 rfl ?_ | refine r_aload_nq dX8_init_50 rfl ?_ | refine r_aload_nN dX8_init_50 rfl ?_
  refine r_putF 8 1 dX8_init_51 rfl (Nat.le_of_ble_eq_true rfl) (lkA q1471) rfl rfl rfl hu_s (by dsimp only [List.set]) (Nat.le_of_ble_eq_true rfl) rfl rfl (by first | exact hu_hu | exact rfl) ?_
  exact r_return dX8_init_54 rfl ⟨rfl, wa, (ov_none_hu hwa).2, (ov_none_hu hwa).1, by rw [hu_c (Ne.symm (ov_none_hu hwa).1), hu_hu]; rfl⟩

set_option maxHeartbeats 4000000 in
set_option maxRecDepth 100000 in
theorem lp_order_0 {G : GG} {h : HP} (hT : KT G) {ka : Nat → Nat} (hKC : KC G ka) {rd wa tx r N p : Nat} {T : List Int32} (hrd : h rd = none) (hw : h wa = some (bR 4 7 (fWds ka))) (hS : SB h tx r N T) (hl : T.length ≤ 60) (hp : p ≤ T.length) {q0 : Nat} (hq : h q0 = none) (eq : q0 ≠ rd) {b : Nat × Option Ord1} (hb : b = pA T 0 p) : V G 8 M_X8_order 17 [(2, .ref (ka 0)), (1, .ref q0), (0, .ref rd)] [] (RH (hu h q0 (bO 9 [.ref (ka 0), .int 0, .int 0, .int 0])) rd wa tx p) 60 (poQ ka h rd wa tx b) := by
  rw [pA_0] at hb
  have hrdq : ∀ Z, (hu h q0 Z) rd = none := fun Z => (hu_n (Ne.symm eq)).trans hrd
  have hwq : ∀ Z, (hu h q0 Z) wa = some (bR 4 7 (fWds ka)) := fun Z => hu_o hq hw
  have hSq : ∀ Z, SB (hu h q0 Z) tx r N T := fun Z => SB_o hS hq
  have hp1 : p ≤ p ∧ p ≤ T.length := ⟨Nat.le_refl p, hp⟩
  obtain ⟨v9, y9, f9, hks, -⟩ := hKC.2 0 (Nat.le_of_ble_eq_true rfl)
  refine r_iconst (v := (-1)) dX8_order_17 rfl ?_
  refine r_istore_n dX8_order_18 (Nat.le_of_ble_eq_true rfl) ?_
  first | refine r_aload_n dX8_order_19 rfl ?_ | refine r_aload_nq dX8_order_19 rfl ?_ | refine r_aload_nN dX8_order_19 rfl ?_
  refine r_invV dX8_order_20 (sp_J12_hashCode (x := 102456) (Or.inr hks) (by decide)) rfl mo_J12_hashCode (Or.inr hks) rfl (lkA q1593) (lkA q1594) (lkA q1595) rfl (lkA q80) mp_J12_hashCode (Nat.le_of_ble_eq_true rfl) (Nat.le_of_ble_eq_true rfl) (Nat.le_of_ble_eq_true rfl) (kr_e ?_) kx_e
  refine r_lookup (off := 49) 72 dX8_order_23 (by decide) (by decide) rfl ?_
  first | refine r_aload_n dX8_order_72 rfl ?_ | refine r_aload_nq dX8_order_72 rfl ?_ | refine r_aload_nN dX8_order_72 rfl ?_
  refine r_ldcS dX8_order_73 (show Str G "BrushSellers$Reader" 11 "go " (ka 0) from hKC.1 10 (Nat.le_of_ble_eq_true rfl)) ?_
  refine r_invV dX8_order_75 sp_J12_equals rfl mo_J12_equals (Or.inr hks) rfl (lkA q1642) (lkA q1643) (lkA q1644) rfl (lkA q80) mp_J12_equals (Nat.le_of_ble_eq_true rfl) (Nat.le_of_ble_eq_true rfl) (Nat.le_of_ble_eq_true rfl) (kr_e ?_) kx_e
  refine r_if_eq 139 dX8_order_78 rfl (fun c78 => absurd c78 (by decide)) (fun c78 => ?_)
  refine r_iconst (v := 0) dX8_order_81 rfl ?_
  refine r_istore_n dX8_order_82 (Nat.le_of_ble_eq_true rfl) ?_
  refine r_goto 139 dX8_order_83 rfl ?_
  refine r_iload_n dX8_order_139 rfl ?_
  refine r_tableIn (off := 36) 176 dX8_order_140 (by decide) (by decide) rfl rfl ?_
  first | refine r_aload_n dX8_order_176 rfl ?_ | refine r_aload_nq dX8_order_176 rfl ?_ | refine r_aload_nN dX8_order_176 rfl ?_
  first | refine r_aload_n dX8_order_177 rfl ?_ | refine r_aload_nq dX8_order_177 rfl ?_ | refine r_aload_nN dX8_order_177 rfl ?_
  refine r_iconst (v := 1) dX8_order_178 rfl ?_
  refine r_invV dX8_order_179 (sp_X8_number (h := hu h q0 _) hT hKC (hrdq _) (hwq _) (hSq _) hl hp1.2 (x := 1) (m := 1) rfl (by decide)) rfl mo_X8_number (Or.inl hu_s) rfl (lkA q1650) (lkA q1652) (lkA qs26) rfl (lkA q103) mp_X8_number (Nat.le_of_ble_eq_true rfl) (by decide) (Nat.le_of_ble_eq_true rfl) (fun v9 h9 p9 => ?_) (fun q9 h9 ci9 fs9 p9 hq9 => (r_out hq9 rfl (by rw [hb, pb_n p9.1]; exact ⟨rfl, wr_x p9.2 (Ext.new hq)⟩)))
  obtain ⟨x1, hx1, rfl, rfl⟩ := p9
  rw [pb_s hx1] at hb
  try dsimp only at hb
  have hpx1 := pN_le (m := 1) hp1.2
  refine r_putN 9 1 dX8_order_182 rfl (Nat.le_of_ble_eq_true rfl) (lkT q1579 rfl) (Or.inl rfl) rfl ((hu_n eq).trans hu_s) (by dsimp only [List.set]) (Nat.le_of_ble_eq_true rfl) rfl rfl (RH_q eq) ?_
  first | refine r_aload_n dX8_order_185 rfl ?_ | refine r_aload_nq dX8_order_185 rfl ?_ | refine r_aload_nN dX8_order_185 rfl ?_
  first | refine r_aload_n dX8_order_186 rfl ?_ | refine r_aload_nq dX8_order_186 rfl ?_ | refine r_aload_nN dX8_order_186 rfl ?_
  refine r_bipush (v := 62) dX8_order_187 rfl ?_
  refine r_iconst (v := 2) dX8_order_189 rfl ?_
  refine r_invV dX8_order_190 (sp_X8_behind (h := hu h q0 _) hT hKC (hrdq _) (hwq _) (hSq _) hl hpx1.2 (c := 62) (x := 2) (m := 2) (by decide) rfl (by decide)) rfl mo_X8_behind (Or.inl hu_s) rfl (lkA q1655) (lkA q1657) (lkA qs27) rfl (lkA q103) mp_X8_behind (Nat.le_of_ble_eq_true rfl) (by decide) (Nat.le_of_ble_eq_true rfl) (fun v9 h9 p9 => ?_) (fun q9 h9 ci9 fs9 p9 hq9 => (r_out hq9 rfl (by rw [hb, pb_n p9.1]; exact ⟨rfl, wr_x p9.2 (Ext.new hq)⟩)))
  obtain ⟨x2, hx2, rfl, rfl⟩ := p9
  rw [pb_s hx2] at hb
  try dsimp only at hb
  have hpx2 := pB_le (c := 62) (m := 2) (by decide) hpx1.2
  refine r_putN 9 2 dX8_order_193 rfl (Nat.le_of_ble_eq_true rfl) (lkT q1581 rfl) (Or.inl rfl) rfl ((hu_n eq).trans hu_s) (by dsimp only [List.set]) (Nat.le_of_ble_eq_true rfl) rfl rfl (RH_q eq) ?_
  refine r_goto 288 dX8_order_196 rfl ?_
  first | refine r_aload_n dX8_order_288 rfl ?_ | refine r_aload_nq dX8_order_288 rfl ?_ | refine r_aload_nN dX8_order_288 rfl ?_
  first | exact r_areturn dX8_order_289 rfl rfl ⟨(0, x1, x2, 0), q0, by rw [hb], rfl, hq, eq, by rw [hb]⟩ | exact r_areturnq dX8_order_289 rfl rfl ⟨(0, x1, x2, 0), q0, by rw [hb], rfl, hq, eq, by rw [hb]⟩ | exact r_areturnN dX8_order_289 rfl rfl ⟨(0, x1, x2, 0), q0, by rw [hb], rfl, hq, eq, by rw [hb]⟩

set_option maxHeartbeats 4000000 in
set_option maxRecDepth 100000 in
theorem lp_order_1 {G : GG} {h : HP} (hT : KT G) {ka : Nat → Nat} (hKC : KC G ka) {rd wa tx r N p : Nat} {T : List Int32} (hrd : h rd = none) (hw : h wa = some (bR 4 7 (fWds ka))) (hS : SB h tx r N T) (hl : T.length ≤ 60) (hp : p ≤ T.length) {q0 : Nat} (hq : h q0 = none) (eq : q0 ≠ rd) {b : Nat × Option Ord1} (hb : b = pA T 1 p) : V G 8 M_X8_order 17 [(2, .ref (ka 1)), (1, .ref q0), (0, .ref rd)] [] (RH (hu h q0 (bO 9 [.ref (ka 1), .int 0, .int 0, .int 0])) rd wa tx p) 60 (poQ ka h rd wa tx b) := by
  rw [pA_1] at hb
  have hrdq : ∀ Z, (hu h q0 Z) rd = none := fun Z => (hu_n (Ne.symm eq)).trans hrd
  have hwq : ∀ Z, (hu h q0 Z) wa = some (bR 4 7 (fWds ka)) := fun Z => hu_o hq hw
  have hSq : ∀ Z, SB (hu h q0 Z) tx r N T := fun Z => SB_o hS hq
  have hp1 : p ≤ p ∧ p ≤ T.length := ⟨Nat.le_refl p, hp⟩
  obtain ⟨v9, y9, f9, hks, -⟩ := hKC.2 1 (Nat.le_of_ble_eq_true rfl)
  refine r_iconst (v := (-1)) dX8_order_17 rfl ?_
  refine r_istore_n dX8_order_18 (Nat.le_of_ble_eq_true rfl) ?_
  first | refine r_aload_n dX8_order_19 rfl ?_ | refine r_aload_nq dX8_order_19 rfl ?_ | refine r_aload_nN dX8_order_19 rfl ?_
  refine r_invV dX8_order_20 (sp_J12_hashCode (x := 108518384) (Or.inr hks) (by decide)) rfl mo_J12_hashCode (Or.inr hks) rfl (lkA q1593) (lkA q1594) (lkA q1595) rfl (lkA q80) mp_J12_hashCode (Nat.le_of_ble_eq_true rfl) (Nat.le_of_ble_eq_true rfl) (Nat.le_of_ble_eq_true rfl) (kr_e ?_) kx_e
  refine r_lookup (off := 63) 86 dX8_order_23 (by decide) (by decide) rfl ?_
  first | refine r_aload_n dX8_order_86 rfl ?_ | refine r_aload_nq dX8_order_86 rfl ?_ | refine r_aload_nN dX8_order_86 rfl ?_
  refine r_ldcS dX8_order_87 (show Str G "BrushSellers$Reader" 13 "ring " (ka 1) from hKC.1 11 (Nat.le_of_ble_eq_true rfl)) ?_
  refine r_invV dX8_order_89 sp_J12_equals rfl mo_J12_equals (Or.inr hks) rfl (lkA q1642) (lkA q1643) (lkA q1644) rfl (lkA q80) mp_J12_equals (Nat.le_of_ble_eq_true rfl) (Nat.le_of_ble_eq_true rfl) (Nat.le_of_ble_eq_true rfl) (kr_e ?_) kx_e
  refine r_if_eq 139 dX8_order_92 rfl (fun c92 => absurd c92 (by decide)) (fun c92 => ?_)
  refine r_iconst (v := 1) dX8_order_95 rfl ?_
  refine r_istore_n dX8_order_96 (Nat.le_of_ble_eq_true rfl) ?_
  refine r_goto 139 dX8_order_97 rfl ?_
  refine r_iload_n dX8_order_139 rfl ?_
  refine r_tableIn (off := 59) 199 dX8_order_140 (by decide) (by decide) rfl rfl ?_
  first | refine r_aload_n dX8_order_199 rfl ?_ | refine r_aload_nq dX8_order_199 rfl ?_ | refine r_aload_nN dX8_order_199 rfl ?_
  first | refine r_aload_n dX8_order_200 rfl ?_ | refine r_aload_nq dX8_order_200 rfl ?_ | refine r_aload_nN dX8_order_200 rfl ?_
  refine r_iconst (v := 1) dX8_order_201 rfl ?_
  refine r_invV dX8_order_202 (sp_X8_number (h := hu h q0 _) hT hKC (hrdq _) (hwq _) (hSq _) hl hp1.2 (x := 1) (m := 1) rfl (by decide)) rfl mo_X8_number (Or.inl hu_s) rfl (lkA q1650) (lkA q1652) (lkA qs26) rfl (lkA q103) mp_X8_number (Nat.le_of_ble_eq_true rfl) (by decide) (Nat.le_of_ble_eq_true rfl) (fun v9 h9 p9 => ?_) (fun q9 h9 ci9 fs9 p9 hq9 => (r_out hq9 rfl (by rw [hb, pb_n p9.1]; exact ⟨rfl, wr_x p9.2 (Ext.new hq)⟩)))
  obtain ⟨x1, hx1, rfl, rfl⟩ := p9
  rw [pb_s hx1] at hb
  try dsimp only at hb
  have hpx1 := pN_le (m := 1) hp1.2
  refine r_putN 9 1 dX8_order_205 rfl (Nat.le_of_ble_eq_true rfl) (lkT q1579 rfl) (Or.inl rfl) rfl ((hu_n eq).trans hu_s) (by dsimp only [List.set]) (Nat.le_of_ble_eq_true rfl) rfl rfl (RH_q eq) ?_
  first | refine r_aload_n dX8_order_208 rfl ?_ | refine r_aload_nq dX8_order_208 rfl ?_ | refine r_aload_nN dX8_order_208 rfl ?_
  first | refine r_aload_n dX8_order_209 rfl ?_ | refine r_aload_nq dX8_order_209 rfl ?_ | refine r_aload_nN dX8_order_209 rfl ?_
  refine r_bipush (v := 32) dX8_order_210 rfl ?_
  refine r_iconst (v := 1) dX8_order_212 rfl ?_
  refine r_invV dX8_order_213 (sp_X8_behind (h := hu h q0 _) hT hKC (hrdq _) (hwq _) (hSq _) hl hpx1.2 (c := 32) (x := 1) (m := 1) (by decide) rfl (by decide)) rfl mo_X8_behind (Or.inl hu_s) rfl (lkA q1655) (lkA q1657) (lkA qs27) rfl (lkA q103) mp_X8_behind (Nat.le_of_ble_eq_true rfl) (by decide) (Nat.le_of_ble_eq_true rfl) (fun v9 h9 p9 => ?_) (fun q9 h9 ci9 fs9 p9 hq9 => (r_out hq9 rfl (by rw [hb, pb_n p9.1]; exact ⟨rfl, wr_x p9.2 (Ext.new hq)⟩)))
  obtain ⟨x2, hx2, rfl, rfl⟩ := p9
  rw [pb_s hx2] at hb
  try dsimp only at hb
  have hpx2 := pB_le (c := 32) (m := 1) (by decide) hpx1.2
  refine r_putN 9 2 dX8_order_216 rfl (Nat.le_of_ble_eq_true rfl) (lkT q1581 rfl) (Or.inl rfl) rfl ((hu_n eq).trans hu_s) (by dsimp only [List.set]) (Nat.le_of_ble_eq_true rfl) rfl rfl (RH_q eq) ?_
  first | refine r_aload_n dX8_order_219 rfl ?_ | refine r_aload_nq dX8_order_219 rfl ?_ | refine r_aload_nN dX8_order_219 rfl ?_
  first | refine r_aload_n dX8_order_220 rfl ?_ | refine r_aload_nq dX8_order_220 rfl ?_ | refine r_aload_nN dX8_order_220 rfl ?_
  refine r_bipush (v := 61) dX8_order_221 rfl ?_
  refine r_iconst (v := 2) dX8_order_223 rfl ?_
  refine r_invV dX8_order_224 (sp_X8_behind (h := hu h q0 _) hT hKC (hrdq _) (hwq _) (hSq _) hl hpx2.2 (c := 61) (x := 2) (m := 2) (by decide) rfl (by decide)) rfl mo_X8_behind (Or.inl hu_s) rfl (lkA q1655) (lkA q1657) (lkA qs27) rfl (lkA q103) mp_X8_behind (Nat.le_of_ble_eq_true rfl) (by decide) (Nat.le_of_ble_eq_true rfl) (fun v9 h9 p9 => ?_) (fun q9 h9 ci9 fs9 p9 hq9 => (r_out hq9 rfl (by rw [hb, pb_n p9.1]; exact ⟨rfl, wr_x p9.2 (Ext.new hq)⟩)))
  obtain ⟨x3, hx3, rfl, rfl⟩ := p9
  rw [pb_s hx3] at hb
  try dsimp only at hb
  have hpx3 := pB_le (c := 61) (m := 2) (by decide) hpx2.2
  refine r_putN 9 3 dX8_order_227 rfl (Nat.le_of_ble_eq_true rfl) (lkT q1583 rfl) (Or.inl rfl) rfl ((hu_n eq).trans hu_s) (by dsimp only [List.set]) (Nat.le_of_ble_eq_true rfl) rfl rfl (RH_q eq) ?_
  refine r_goto 288 dX8_order_230 rfl ?_
  first | refine r_aload_n dX8_order_288 rfl ?_ | refine r_aload_nq dX8_order_288 rfl ?_ | refine r_aload_nN dX8_order_288 rfl ?_
  first | exact r_areturn dX8_order_289 rfl rfl ⟨(1, x1, x2, x3), q0, by rw [hb], rfl, hq, eq, by rw [hb]⟩ | exact r_areturnq dX8_order_289 rfl rfl ⟨(1, x1, x2, x3), q0, by rw [hb], rfl, hq, eq, by rw [hb]⟩ | exact r_areturnN dX8_order_289 rfl rfl ⟨(1, x1, x2, x3), q0, by rw [hb], rfl, hq, eq, by rw [hb]⟩

set_option maxHeartbeats 4000000 in
set_option maxRecDepth 100000 in
theorem lp_order_2 {G : GG} {h : HP} (hT : KT G) {ka : Nat → Nat} (hKC : KC G ka) {rd wa tx r N p : Nat} {T : List Int32} (hrd : h rd = none) (hw : h wa = some (bR 4 7 (fWds ka))) (hS : SB h tx r N T) (hl : T.length ≤ 60) (hp : p ≤ T.length) {q0 : Nat} (hq : h q0 = none) (eq : q0 ≠ rd) {b : Nat × Option Ord1} (hb : b = pA T 2 p) : V G 8 M_X8_order 17 [(2, .ref (ka 2)), (1, .ref q0), (0, .ref rd)] [] (RH (hu h q0 (bO 9 [.ref (ka 2), .int 0, .int 0, .int 0])) rd wa tx p) 60 (poQ ka h rd wa tx b) := by
  rw [pA_2] at hb
  have hrdq : ∀ Z, (hu h q0 Z) rd = none := fun Z => (hu_n (Ne.symm eq)).trans hrd
  have hwq : ∀ Z, (hu h q0 Z) wa = some (bR 4 7 (fWds ka)) := fun Z => hu_o hq hw
  have hSq : ∀ Z, SB (hu h q0 Z) tx r N T := fun Z => SB_o hS hq
  have hp1 : p ≤ p ∧ p ≤ T.length := ⟨Nat.le_refl p, hp⟩
  obtain ⟨v9, y9, f9, hks, -⟩ := hKC.2 2 (Nat.le_of_ble_eq_true rfl)
  refine r_iconst (v := (-1)) dX8_order_17 rfl ?_
  refine r_istore_n dX8_order_18 (Nat.le_of_ble_eq_true rfl) ?_
  first | refine r_aload_n dX8_order_19 rfl ?_ | refine r_aload_nq dX8_order_19 rfl ?_ | refine r_aload_nN dX8_order_19 rfl ?_
  refine r_invV dX8_order_20 (sp_J12_hashCode (x := 3437281) (Or.inr hks) (by decide)) rfl mo_J12_hashCode (Or.inr hks) rfl (lkA q1593) (lkA q1594) (lkA q1595) rfl (lkA q80) mp_J12_hashCode (Nat.le_of_ble_eq_true rfl) (Nat.le_of_ble_eq_true rfl) (Nat.le_of_ble_eq_true rfl) (kr_e ?_) kx_e
  refine r_lookup (off := 116) 139 dX8_order_23 (by decide) (by decide) rfl ?_
  refine r_iload_n dX8_order_139 rfl ?_
  refine r_tableOut 279 dX8_order_140 (Or.inl (by decide)) rfl ?_
  first | refine r_aload_n dX8_order_279 rfl ?_ | refine r_aload_nq dX8_order_279 rfl ?_ | refine r_aload_nN dX8_order_279 rfl ?_
  first | refine r_aload_n dX8_order_280 rfl ?_ | refine r_aload_nq dX8_order_280 rfl ?_ | refine r_aload_nN dX8_order_280 rfl ?_
  refine r_iconst (v := 1) dX8_order_281 rfl ?_
  refine r_invV dX8_order_282 (sp_X8_number (h := hu h q0 _) hT hKC (hrdq _) (hwq _) (hSq _) hl hp1.2 (x := 1) (m := 1) rfl (by decide)) rfl mo_X8_number (Or.inl hu_s) rfl (lkA q1650) (lkA q1652) (lkA qs26) rfl (lkA q103) mp_X8_number (Nat.le_of_ble_eq_true rfl) (by decide) (Nat.le_of_ble_eq_true rfl) (fun v9 h9 p9 => ?_) (fun q9 h9 ci9 fs9 p9 hq9 => (r_out hq9 rfl (by rw [hb, pb_n p9.1]; exact ⟨rfl, wr_x p9.2 (Ext.new hq)⟩)))
  obtain ⟨x1, hx1, rfl, rfl⟩ := p9
  rw [pb_s hx1] at hb
  try dsimp only at hb
  have hpx1 := pN_le (m := 1) hp1.2
  refine r_putN 9 1 dX8_order_285 rfl (Nat.le_of_ble_eq_true rfl) (lkT q1579 rfl) (Or.inl rfl) rfl ((hu_n eq).trans hu_s) (by dsimp only [List.set]) (Nat.le_of_ble_eq_true rfl) rfl rfl (RH_q eq) ?_
  first | refine r_aload_n dX8_order_288 rfl ?_ | refine r_aload_nq dX8_order_288 rfl ?_ | refine r_aload_nN dX8_order_288 rfl ?_
  first | exact r_areturn dX8_order_289 rfl rfl ⟨(2, x1, 0, 0), q0, by rw [hb], rfl, hq, eq, by rw [hb]⟩ | exact r_areturnq dX8_order_289 rfl rfl ⟨(2, x1, 0, 0), q0, by rw [hb], rfl, hq, eq, by rw [hb]⟩ | exact r_areturnN dX8_order_289 rfl rfl ⟨(2, x1, 0, 0), q0, by rw [hb], rfl, hq, eq, by rw [hb]⟩

set_option maxHeartbeats 4000000 in
set_option maxRecDepth 100000 in
theorem lp_order_3 {G : GG} {h : HP} (hT : KT G) {ka : Nat → Nat} (hKC : KC G ka) {rd wa tx r N p : Nat} {T : List Int32} (hrd : h rd = none) (hw : h wa = some (bR 4 7 (fWds ka))) (hS : SB h tx r N T) (hl : T.length ≤ 60) (hp : p ≤ T.length) {q0 : Nat} (hq : h q0 = none) (eq : q0 ≠ rd) {b : Nat × Option Ord1} (hb : b = pA T 3 p) : V G 8 M_X8_order 17 [(2, .ref (ka 3)), (1, .ref q0), (0, .ref rd)] [] (RH (hu h q0 (bO 9 [.ref (ka 3), .int 0, .int 0, .int 0])) rd wa tx p) 60 (poQ ka h rd wa tx b) := by
  rw [pA_3] at hb
  have hrdq : ∀ Z, (hu h q0 Z) rd = none := fun Z => (hu_n (Ne.symm eq)).trans hrd
  have hwq : ∀ Z, (hu h q0 Z) wa = some (bR 4 7 (fWds ka)) := fun Z => hu_o hq hw
  have hSq : ∀ Z, SB (hu h q0 Z) tx r N T := fun Z => SB_o hS hq
  have hp1 : p ≤ p ∧ p ≤ T.length := ⟨Nat.le_refl p, hp⟩
  obtain ⟨v9, y9, f9, hks, -⟩ := hKC.2 3 (Nat.le_of_ble_eq_true rfl)
  refine r_iconst (v := (-1)) dX8_order_17 rfl ?_
  refine r_istore_n dX8_order_18 (Nat.le_of_ble_eq_true rfl) ?_
  first | refine r_aload_n dX8_order_19 rfl ?_ | refine r_aload_nq dX8_order_19 rfl ?_ | refine r_aload_nN dX8_order_19 rfl ?_
  refine r_invV dX8_order_20 (sp_J12_hashCode (x := 110124153) (Or.inr hks) (by decide)) rfl mo_J12_hashCode (Or.inr hks) rfl (lkA q1593) (lkA q1594) (lkA q1595) rfl (lkA q80) mp_J12_hashCode (Nat.le_of_ble_eq_true rfl) (Nat.le_of_ble_eq_true rfl) (Nat.le_of_ble_eq_true rfl) (kr_e ?_) kx_e
  refine r_lookup (off := 77) 100 dX8_order_23 (by decide) (by decide) rfl ?_
  first | refine r_aload_n dX8_order_100 rfl ?_ | refine r_aload_nq dX8_order_100 rfl ?_ | refine r_aload_nN dX8_order_100 rfl ?_
  refine r_ldcS dX8_order_101 (show Str G "BrushSellers$Reader" 17 "take " (ka 3) from hKC.1 13 (Nat.le_of_ble_eq_true rfl)) ?_
  refine r_invV dX8_order_103 sp_J12_equals rfl mo_J12_equals (Or.inr hks) rfl (lkA q1642) (lkA q1643) (lkA q1644) rfl (lkA q80) mp_J12_equals (Nat.le_of_ble_eq_true rfl) (Nat.le_of_ble_eq_true rfl) (Nat.le_of_ble_eq_true rfl) (kr_e ?_) kx_e
  refine r_if_eq 139 dX8_order_106 rfl (fun c106 => absurd c106 (by decide)) (fun c106 => ?_)
  refine r_iconst (v := 2) dX8_order_109 rfl ?_
  refine r_istore_n dX8_order_110 (Nat.le_of_ble_eq_true rfl) ?_
  refine r_goto 139 dX8_order_111 rfl ?_
  refine r_iload_n dX8_order_139 rfl ?_
  refine r_tableIn (off := 93) 233 dX8_order_140 (by decide) (by decide) rfl rfl ?_
  first | refine r_aload_n dX8_order_233 rfl ?_ | refine r_aload_nq dX8_order_233 rfl ?_ | refine r_aload_nN dX8_order_233 rfl ?_
  first | refine r_aload_n dX8_order_234 rfl ?_ | refine r_aload_nq dX8_order_234 rfl ?_ | refine r_aload_nN dX8_order_234 rfl ?_
  refine r_iconst (v := 1) dX8_order_235 rfl ?_
  refine r_invV dX8_order_236 (sp_X8_number (h := hu h q0 _) hT hKC (hrdq _) (hwq _) (hSq _) hl hp1.2 (x := 1) (m := 1) rfl (by decide)) rfl mo_X8_number (Or.inl hu_s) rfl (lkA q1650) (lkA q1652) (lkA qs26) rfl (lkA q103) mp_X8_number (Nat.le_of_ble_eq_true rfl) (by decide) (Nat.le_of_ble_eq_true rfl) (fun v9 h9 p9 => ?_) (fun q9 h9 ci9 fs9 p9 hq9 => (r_out hq9 rfl (by rw [hb, pb_n p9.1]; exact ⟨rfl, wr_x p9.2 (Ext.new hq)⟩)))
  obtain ⟨x1, hx1, rfl, rfl⟩ := p9
  rw [pb_s hx1] at hb
  try dsimp only at hb
  have hpx1 := pN_le (m := 1) hp1.2
  refine r_putN 9 1 dX8_order_239 rfl (Nat.le_of_ble_eq_true rfl) (lkT q1579 rfl) (Or.inl rfl) rfl ((hu_n eq).trans hu_s) (by dsimp only [List.set]) (Nat.le_of_ble_eq_true rfl) rfl rfl (RH_q eq) ?_
  first | refine r_aload_n dX8_order_242 rfl ?_ | refine r_aload_nq dX8_order_242 rfl ?_ | refine r_aload_nN dX8_order_242 rfl ?_
  first | refine r_aload_n dX8_order_243 rfl ?_ | refine r_aload_nq dX8_order_243 rfl ?_ | refine r_aload_nN dX8_order_243 rfl ?_
  refine r_bipush (v := 32) dX8_order_244 rfl ?_
  refine r_iconst (v := 1) dX8_order_246 rfl ?_
  refine r_invV dX8_order_247 (sp_X8_behind (h := hu h q0 _) hT hKC (hrdq _) (hwq _) (hSq _) hl hpx1.2 (c := 32) (x := 1) (m := 1) (by decide) rfl (by decide)) rfl mo_X8_behind (Or.inl hu_s) rfl (lkA q1655) (lkA q1657) (lkA qs27) rfl (lkA q103) mp_X8_behind (Nat.le_of_ble_eq_true rfl) (by decide) (Nat.le_of_ble_eq_true rfl) (fun v9 h9 p9 => ?_) (fun q9 h9 ci9 fs9 p9 hq9 => (r_out hq9 rfl (by rw [hb, pb_n p9.1]; exact ⟨rfl, wr_x p9.2 (Ext.new hq)⟩)))
  obtain ⟨x2, hx2, rfl, rfl⟩ := p9
  rw [pb_s hx2] at hb
  try dsimp only at hb
  have hpx2 := pB_le (c := 32) (m := 1) (by decide) hpx1.2
  refine r_putN 9 2 dX8_order_250 rfl (Nat.le_of_ble_eq_true rfl) (lkT q1581 rfl) (Or.inl rfl) rfl ((hu_n eq).trans hu_s) (by dsimp only [List.set]) (Nat.le_of_ble_eq_true rfl) rfl rfl (RH_q eq) ?_
  first | refine r_aload_n dX8_order_253 rfl ?_ | refine r_aload_nq dX8_order_253 rfl ?_ | refine r_aload_nN dX8_order_253 rfl ?_
  first | refine r_aload_n dX8_order_254 rfl ?_ | refine r_aload_nq dX8_order_254 rfl ?_ | refine r_aload_nN dX8_order_254 rfl ?_
  refine r_invV dX8_order_255 (sp_X8_brushes (h := hu h q0 _) hT hKC (hrdq _) (hwq _) (hSq _) hl hpx2.2) rfl mo_X8_brushes (Or.inl hu_s) rfl (lkA q1659) (lkA q1661) (lkA qs28) rfl (lkA q103) mp_X8_brushes (Nat.le_of_ble_eq_true rfl) (by decide) (Nat.le_of_ble_eq_true rfl) (fun v9 h9 p9 => ?_) (fun q9 h9 ci9 fs9 p9 hq9 => (r_out hq9 rfl (by rw [hb, pb_n p9.1]; exact ⟨rfl, wr_x p9.2 (Ext.new hq)⟩)))
  obtain ⟨x3, hx3, rfl, rfl⟩ := p9
  rw [pb_s hx3] at hb
  try dsimp only at hb
  have hpx3 := pS_le hpx2.2
  refine r_putN 9 3 dX8_order_258 rfl (Nat.le_of_ble_eq_true rfl) (lkT q1583 rfl) (Or.inl rfl) rfl ((hu_n eq).trans hu_s) (by dsimp only [List.set]) (Nat.le_of_ble_eq_true rfl) rfl rfl (RH_q eq) ?_
  refine r_goto 288 dX8_order_261 rfl ?_
  first | refine r_aload_n dX8_order_288 rfl ?_ | refine r_aload_nq dX8_order_288 rfl ?_ | refine r_aload_nN dX8_order_288 rfl ?_
  first | exact r_areturn dX8_order_289 rfl rfl ⟨(3, x1, x2, x3), q0, by rw [hb], rfl, hq, eq, by rw [hb]⟩ | exact r_areturnq dX8_order_289 rfl rfl ⟨(3, x1, x2, x3), q0, by rw [hb], rfl, hq, eq, by rw [hb]⟩ | exact r_areturnN dX8_order_289 rfl rfl ⟨(3, x1, x2, x3), q0, by rw [hb], rfl, hq, eq, by rw [hb]⟩

set_option maxHeartbeats 4000000 in
set_option maxRecDepth 100000 in
theorem lp_order_4 {G : GG} {h : HP} (hT : KT G) {ka : Nat → Nat} (hKC : KC G ka) {rd wa tx r N p : Nat} {T : List Int32} (hrd : h rd = none) (hw : h wa = some (bR 4 7 (fWds ka))) (hS : SB h tx r N T) (hl : T.length ≤ 60) (hp : p ≤ T.length) {q0 : Nat} (hq : h q0 = none) (eq : q0 ≠ rd) {b : Nat × Option Ord1} (hb : b = pA T 4 p) : V G 8 M_X8_order 17 [(2, .ref (ka 4)), (1, .ref q0), (0, .ref rd)] [] (RH (hu h q0 (bO 9 [.ref (ka 4), .int 0, .int 0, .int 0])) rd wa tx p) 60 (poQ ka h rd wa tx b) := by
  rw [pA_4] at hb
  have hrdq : ∀ Z, (hu h q0 Z) rd = none := fun Z => (hu_n (Ne.symm eq)).trans hrd
  have hwq : ∀ Z, (hu h q0 Z) wa = some (bR 4 7 (fWds ka)) := fun Z => hu_o hq hw
  have hSq : ∀ Z, SB (hu h q0 Z) tx r N T := fun Z => SB_o hS hq
  have hp1 : p ≤ p ∧ p ≤ T.length := ⟨Nat.le_refl p, hp⟩
  obtain ⟨v9, y9, f9, hks, -⟩ := hKC.2 4 (Nat.le_of_ble_eq_true rfl)
  refine r_iconst (v := (-1)) dX8_order_17 rfl ?_
  refine r_istore_n dX8_order_18 (Nat.le_of_ble_eq_true rfl) ?_
  first | refine r_aload_n dX8_order_19 rfl ?_ | refine r_aload_nq dX8_order_19 rfl ?_ | refine r_aload_nN dX8_order_19 rfl ?_
  refine r_invV dX8_order_20 (sp_J12_hashCode (x := 93493273) (Or.inr hks) (by decide)) rfl mo_J12_hashCode (Or.inr hks) rfl (lkA q1593) (lkA q1594) (lkA q1595) rfl (lkA q80) mp_J12_hashCode (Nat.le_of_ble_eq_true rfl) (Nat.le_of_ble_eq_true rfl) (Nat.le_of_ble_eq_true rfl) (kr_e ?_) kx_e
  refine r_lookup (off := 91) 114 dX8_order_23 (by decide) (by decide) rfl ?_
  first | refine r_aload_n dX8_order_114 rfl ?_ | refine r_aload_nq dX8_order_114 rfl ?_ | refine r_aload_nN dX8_order_114 rfl ?_
  refine r_ldcS dX8_order_115 (show Str G "BrushSellers$Reader" 19 "back " (ka 4) from hKC.1 14 (Nat.le_of_ble_eq_true rfl)) ?_
  refine r_invV dX8_order_117 sp_J12_equals rfl mo_J12_equals (Or.inr hks) rfl (lkA q1642) (lkA q1643) (lkA q1644) rfl (lkA q80) mp_J12_equals (Nat.le_of_ble_eq_true rfl) (Nat.le_of_ble_eq_true rfl) (Nat.le_of_ble_eq_true rfl) (kr_e ?_) kx_e
  refine r_if_eq 139 dX8_order_120 rfl (fun c120 => absurd c120 (by decide)) (fun c120 => ?_)
  refine r_iconst (v := 3) dX8_order_123 rfl ?_
  refine r_istore_n dX8_order_124 (Nat.le_of_ble_eq_true rfl) ?_
  refine r_goto 139 dX8_order_125 rfl ?_
  refine r_iload_n dX8_order_139 rfl ?_
  refine r_tableIn (off := 124) 264 dX8_order_140 (by decide) (by decide) rfl rfl ?_
  first | refine r_aload_n dX8_order_264 rfl ?_ | refine r_aload_nq dX8_order_264 rfl ?_ | refine r_aload_nN dX8_order_264 rfl ?_
  first | refine r_aload_n dX8_order_265 rfl ?_ | refine r_aload_nq dX8_order_265 rfl ?_ | refine r_aload_nN dX8_order_265 rfl ?_
  refine r_iconst (v := 2) dX8_order_266 rfl ?_
  refine r_invV dX8_order_267 (sp_X8_number (h := hu h q0 _) hT hKC (hrdq _) (hwq _) (hSq _) hl hp1.2 (x := 2) (m := 2) rfl (by decide)) rfl mo_X8_number (Or.inl hu_s) rfl (lkA q1650) (lkA q1652) (lkA qs26) rfl (lkA q103) mp_X8_number (Nat.le_of_ble_eq_true rfl) (by decide) (Nat.le_of_ble_eq_true rfl) (fun v9 h9 p9 => ?_) (fun q9 h9 ci9 fs9 p9 hq9 => (r_out hq9 rfl (by rw [hb, pb_n p9.1]; exact ⟨rfl, wr_x p9.2 (Ext.new hq)⟩)))
  obtain ⟨x1, hx1, rfl, rfl⟩ := p9
  rw [pb_s hx1] at hb
  try dsimp only at hb
  have hpx1 := pN_le (m := 2) hp1.2
  refine r_putN 9 1 dX8_order_270 rfl (Nat.le_of_ble_eq_true rfl) (lkT q1579 rfl) (Or.inl rfl) rfl ((hu_n eq).trans hu_s) (by dsimp only [List.set]) (Nat.le_of_ble_eq_true rfl) rfl rfl (RH_q eq) ?_
  refine r_goto 288 dX8_order_273 rfl ?_
  first | refine r_aload_n dX8_order_288 rfl ?_ | refine r_aload_nq dX8_order_288 rfl ?_ | refine r_aload_nN dX8_order_288 rfl ?_
  first | exact r_areturn dX8_order_289 rfl rfl ⟨(4, x1, 0, 0), q0, by rw [hb], rfl, hq, eq, by rw [hb]⟩ | exact r_areturnq dX8_order_289 rfl rfl ⟨(4, x1, 0, 0), q0, by rw [hb], rfl, hq, eq, by rw [hb]⟩ | exact r_areturnN dX8_order_289 rfl rfl ⟨(4, x1, 0, 0), q0, by rw [hb], rfl, hq, eq, by rw [hb]⟩

set_option maxHeartbeats 4000000 in
set_option maxRecDepth 100000 in
theorem lp_order_5 {G : GG} {h : HP} (hT : KT G) {ka : Nat → Nat} (hKC : KC G ka) {rd wa tx r N p : Nat} {T : List Int32} (hrd : h rd = none) (hw : h wa = some (bR 4 7 (fWds ka))) (hS : SB h tx r N T) (hl : T.length ≤ 60) (hp : p ≤ T.length) {q0 : Nat} (hq : h q0 = none) (eq : q0 ≠ rd) {b : Nat × Option Ord1} (hb : b = pA T 5 p) : V G 8 M_X8_order 17 [(2, .ref (ka 5)), (1, .ref q0), (0, .ref rd)] [] (RH (hu h q0 (bO 9 [.ref (ka 5), .int 0, .int 0, .int 0])) rd wa tx p) 60 (poQ ka h rd wa tx b) := by
  rw [pA_5] at hb
  have hrdq : ∀ Z, (hu h q0 Z) rd = none := fun Z => (hu_n (Ne.symm eq)).trans hrd
  have hwq : ∀ Z, (hu h q0 Z) wa = some (bR 4 7 (fWds ka)) := fun Z => hu_o hq hw
  have hSq : ∀ Z, SB (hu h q0 Z) tx r N T := fun Z => SB_o hS hq
  have hp1 : p ≤ p ∧ p ≤ T.length := ⟨Nat.le_refl p, hp⟩
  obtain ⟨v9, y9, f9, hks, -⟩ := hKC.2 5 (Nat.le_of_ble_eq_true rfl)
  refine r_iconst (v := (-1)) dX8_order_17 rfl ?_
  refine r_istore_n dX8_order_18 (Nat.le_of_ble_eq_true rfl) ?_
  first | refine r_aload_n dX8_order_19 rfl ?_ | refine r_aload_nq dX8_order_19 rfl ?_ | refine r_aload_nN dX8_order_19 rfl ?_
  refine r_invV dX8_order_20 (sp_J12_hashCode (x := -896786014) (Or.inr hks) (by decide)) rfl mo_J12_hashCode (Or.inr hks) rfl (lkA q1593) (lkA q1594) (lkA q1595) rfl (lkA q80) mp_J12_hashCode (Nat.le_of_ble_eq_true rfl) (Nat.le_of_ble_eq_true rfl) (Nat.le_of_ble_eq_true rfl) (kr_e ?_) kx_e
  refine r_lookup (off := 116) 139 dX8_order_23 (by decide) (by decide) rfl ?_
  refine r_iload_n dX8_order_139 rfl ?_
  refine r_tableOut 279 dX8_order_140 (Or.inl (by decide)) rfl ?_
  first | refine r_aload_n dX8_order_279 rfl ?_ | refine r_aload_nq dX8_order_279 rfl ?_ | refine r_aload_nN dX8_order_279 rfl ?_
  first | refine r_aload_n dX8_order_280 rfl ?_ | refine r_aload_nq dX8_order_280 rfl ?_ | refine r_aload_nN dX8_order_280 rfl ?_
  refine r_iconst (v := 1) dX8_order_281 rfl ?_
  refine r_invV dX8_order_282 (sp_X8_number (h := hu h q0 _) hT hKC (hrdq _) (hwq _) (hSq _) hl hp1.2 (x := 1) (m := 1) rfl (by decide)) rfl mo_X8_number (Or.inl hu_s) rfl (lkA q1650) (lkA q1652) (lkA qs26) rfl (lkA q103) mp_X8_number (Nat.le_of_ble_eq_true rfl) (by decide) (Nat.le_of_ble_eq_true rfl) (fun v9 h9 p9 => ?_) (fun q9 h9 ci9 fs9 p9 hq9 => (r_out hq9 rfl (by rw [hb, pb_n p9.1]; exact ⟨rfl, wr_x p9.2 (Ext.new hq)⟩)))
  obtain ⟨x1, hx1, rfl, rfl⟩ := p9
  rw [pb_s hx1] at hb
  try dsimp only at hb
  have hpx1 := pN_le (m := 1) hp1.2
  refine r_putN 9 1 dX8_order_285 rfl (Nat.le_of_ble_eq_true rfl) (lkT q1579 rfl) (Or.inl rfl) rfl ((hu_n eq).trans hu_s) (by dsimp only [List.set]) (Nat.le_of_ble_eq_true rfl) rfl rfl (RH_q eq) ?_
  first | refine r_aload_n dX8_order_288 rfl ?_ | refine r_aload_nq dX8_order_288 rfl ?_ | refine r_aload_nN dX8_order_288 rfl ?_
  first | exact r_areturn dX8_order_289 rfl rfl ⟨(5, x1, 0, 0), q0, by rw [hb], rfl, hq, eq, by rw [hb]⟩ | exact r_areturnq dX8_order_289 rfl rfl ⟨(5, x1, 0, 0), q0, by rw [hb], rfl, hq, eq, by rw [hb]⟩ | exact r_areturnN dX8_order_289 rfl rfl ⟨(5, x1, 0, 0), q0, by rw [hb], rfl, hq, eq, by rw [hb]⟩

set_option maxHeartbeats 4000000 in
set_option maxRecDepth 100000 in
theorem lp_order_6 {G : GG} {h : HP} (hT : KT G) {ka : Nat → Nat} (hKC : KC G ka) {rd wa tx r N p : Nat} {T : List Int32} (hrd : h rd = none) (hw : h wa = some (bR 4 7 (fWds ka))) (hS : SB h tx r N T) (hl : T.length ≤ 60) (hp : p ≤ T.length) {q0 : Nat} (hq : h q0 = none) (eq : q0 ≠ rd) {b : Nat × Option Ord1} (hb : b = pA T 6 p) : V G 8 M_X8_order 17 [(2, .ref (ka 6)), (1, .ref q0), (0, .ref rd)] [] (RH (hu h q0 (bO 9 [.ref (ka 6), .int 0, .int 0, .int 0])) rd wa tx p) 60 (poQ ka h rd wa tx b) := by
  rw [pA_6] at hb
  have hrdq : ∀ Z, (hu h q0 Z) rd = none := fun Z => (hu_n (Ne.symm eq)).trans hrd
  have hwq : ∀ Z, (hu h q0 Z) wa = some (bR 4 7 (fWds ka)) := fun Z => hu_o hq hw
  have hSq : ∀ Z, SB (hu h q0 Z) tx r N T := fun Z => SB_o hS hq
  have hp1 : p ≤ p ∧ p ≤ T.length := ⟨Nat.le_refl p, hp⟩
  obtain ⟨v9, y9, f9, hks, -⟩ := hKC.2 6 (Nat.le_of_ble_eq_true rfl)
  refine r_iconst (v := (-1)) dX8_order_17 rfl ?_
  refine r_istore_n dX8_order_18 (Nat.le_of_ble_eq_true rfl) ?_
  first | refine r_aload_n dX8_order_19 rfl ?_ | refine r_aload_nq dX8_order_19 rfl ?_ | refine r_aload_nN dX8_order_19 rfl ?_
  refine r_invV dX8_order_20 (sp_J12_hashCode (x := 99228) (Or.inr hks) (by decide)) rfl mo_J12_hashCode (Or.inr hks) rfl (lkA q1593) (lkA q1594) (lkA q1595) rfl (lkA q80) mp_J12_hashCode (Nat.le_of_ble_eq_true rfl) (Nat.le_of_ble_eq_true rfl) (Nat.le_of_ble_eq_true rfl) (kr_e ?_) kx_e
  refine r_lookup (off := 105) 128 dX8_order_23 (by decide) (by decide) rfl ?_
  first | refine r_aload_n dX8_order_128 rfl ?_ | refine r_aload_nq dX8_order_128 rfl ?_ | refine r_aload_nN dX8_order_128 rfl ?_
  refine r_ldcS dX8_order_129 (show Str G "BrushSellers$Reader" 23 "day" (ka 6) from hKC.1 16 (Nat.le_of_ble_eq_true rfl)) ?_
  refine r_invV dX8_order_131 sp_J12_equals rfl mo_J12_equals (Or.inr hks) rfl (lkA q1642) (lkA q1643) (lkA q1644) rfl (lkA q80) mp_J12_equals (Nat.le_of_ble_eq_true rfl) (Nat.le_of_ble_eq_true rfl) (Nat.le_of_ble_eq_true rfl) (kr_e ?_) kx_e
  refine r_if_eq 139 dX8_order_134 rfl (fun c134 => absurd c134 (by decide)) (fun c134 => ?_)
  refine r_iconst (v := 4) dX8_order_137 rfl ?_
  refine r_istore_n dX8_order_138 (Nat.le_of_ble_eq_true rfl) ?_
  refine r_iload_n dX8_order_139 rfl ?_
  refine r_tableIn (off := 136) 276 dX8_order_140 (by decide) (by decide) rfl rfl ?_
  refine r_goto 288 dX8_order_276 rfl ?_
  first | refine r_aload_n dX8_order_288 rfl ?_ | refine r_aload_nq dX8_order_288 rfl ?_ | refine r_aload_nN dX8_order_288 rfl ?_
  first | exact r_areturn dX8_order_289 rfl rfl ⟨(6, 0, 0, 0), q0, by rw [hb], rfl, hq, eq, by rw [hb]⟩ | exact r_areturnq dX8_order_289 rfl rfl ⟨(6, 0, 0, 0), q0, by rw [hb], rfl, hq, eq, by rw [hb]⟩ | exact r_areturnN dX8_order_289 rfl rfl ⟨(6, 0, 0, 0), q0, by rw [hb], rfl, hq, eq, by rw [hb]⟩

set_option maxHeartbeats 4000000 in
set_option maxRecDepth 100000 in
theorem sp_X8_order {G : GG} {h : HP} (hT : KT G) {ka : Nat → Nat} (hKC : KC G ka) {rd wa tx r N p : Nat} {T : List Int32} (hrd : h rd = none) (hw : h wa = some (bR 4 7 (fWds ka))) (hS : SB h tx r N T) (hl : T.length ≤ 60) (hp : p ≤ T.length)  : Ct G 8 130 M_X8_order [.ref rd] (RH h rd wa tx p) (poQ ka h rd wa tx (pO T p)) := by
  refine ct_intro my_X8_order (Nat.le_of_ble_eq_true rfl) ?_
  have hS1 := SB_o (b := bRd wa tx p) hS hrd
  have htx := hS1.choose_spec.choose_spec.1
  refine r_new 9 [.null, .int 0, .int 0, .int 0] dX8_order_0 rfl (lkA q1490) (lkA q1491) (lkA q104) (fun j hj => match j, hj with | 0, _ => rfl | 1, _ => rfl | 2, _ => rfl | 3, _ => rfl | k + 4, hk => absurd hk (Nat.not_lt.mpr (Nat.le_add_left 4 k))) (Nat.le_of_ble_eq_true rfl) (fun q0 hq0 => ?_)
  refine r_dup dX8_order_3 rfl ?_
  obtain ⟨eq, hq⟩ := ov_none_hu hq0
  rw [RH_n eq]
  have hrdq : ∀ Z, (hu h q0 Z) rd = none := fun Z => (hu_n (Ne.symm eq)).trans hrd
  have hwq : ∀ Z, (hu h q0 Z) wa = some (bR 4 7 (fWds ka)) := fun Z => hu_o hq hw
  have hSq : ∀ Z, SB (hu h q0 Z) tx r N T := fun Z => SB_o hS hq
  first | refine r_aload_n dX8_order_4 rfl ?_ | refine r_aload_nq dX8_order_4 rfl ?_ | refine r_aload_nN dX8_order_4 rfl ?_
  refine r_invV dX8_order_5 (sp_X8_word (h := hu h q0 _) hT hKC (hrdq _) (hwq _) (hSq _) hl hp) rfl mo_X8_word (Or.inl hu_s) rfl (lkA q1492) (lkA q1494) (lkA qs22) rfl (lkA q103) mp_X8_word (Nat.le_of_ble_eq_true rfl) (Nat.le_of_ble_eq_true rfl) (Nat.le_of_ble_eq_true rfl) (fun v9 h9 p9 => ?_) (fun q9 h9 ci9 fs9 p9 hq9 => (r_out hq9 rfl (by rw [show pO T p = ((pW T p).1, none) from pb_n p9.1]; exact ⟨rfl, wr_x p9.2 (Ext.new hq)⟩)))
  obtain ⟨k, hk, rfl, rfl⟩ := p9
  have hk7 := pW_7 hk
  have hb9 : pO T p = pA T k (pW T p).1 := pb_s hk
  have hp9 := (pW_le hp).2
  refine r_invI dX8_order_8 (sp_X9_init ((hu_n eq).trans hu_s)) rfl mo_X9_init (lkA q1572) (lkA q1573) rfl rfl rfl (lkA q104) mp_X9_init (Nat.le_of_ble_eq_true rfl) (Nat.le_of_ble_eq_true rfl) (Nat.le_of_ble_eq_true rfl) (kr_e ?_) kx_e
  try simp only [hu_hu]
  rw [RH_q eq]
  first | refine r_astore_n dX8_order_11 (Nat.le_of_ble_eq_true rfl) ?_ | refine r_astore_nq dX8_order_11 (Nat.le_of_ble_eq_true rfl) ?_ | refine r_astore_nN dX8_order_11 (Nat.le_of_ble_eq_true rfl) ?_
  first | refine r_aload_n dX8_order_12 rfl ?_ | refine r_aload_nq dX8_order_12 rfl ?_ | refine r_aload_nN dX8_order_12 rfl ?_
  refine r_getfieldN 9 0 dX8_order_13 rfl (Nat.le_of_ble_eq_true rfl) (lkT q1577 rfl) (Or.inl rfl) (Or.inl ((hu_n eq).trans hu_s)) (by rfl) ?_
  first | refine r_astore_n dX8_order_16 (Nat.le_of_ble_eq_true rfl) ?_ | refine r_astore_nq dX8_order_16 (Nat.le_of_ble_eq_true rfl) ?_ | refine r_astore_nN dX8_order_16 (Nat.le_of_ble_eq_true rfl) ?_
  rcases (show k = 0 ∨ k = 1 ∨ k = 2 ∨ k = 3 ∨ k = 4 ∨ k = 5 ∨ k = 6 by omega) with rfl | rfl | rfl | rfl | rfl | rfl | rfl
  · refine V_loc (L' := [(2, .ref (ka 0)), (1, .ref q0), (0, .ref rd)]) ⟨rfl, rfl, rfl, trivial⟩ ?_
    exact (lp_order_0 hT hKC hrd hw hS hl hp9 hq eq hb9).less (Nat.le_of_ble_eq_true rfl)
  · refine V_loc (L' := [(2, .ref (ka 1)), (1, .ref q0), (0, .ref rd)]) ⟨rfl, rfl, rfl, trivial⟩ ?_
    exact (lp_order_1 hT hKC hrd hw hS hl hp9 hq eq hb9).less (Nat.le_of_ble_eq_true rfl)
  · refine V_loc (L' := [(2, .ref (ka 2)), (1, .ref q0), (0, .ref rd)]) ⟨rfl, rfl, rfl, trivial⟩ ?_
    exact (lp_order_2 hT hKC hrd hw hS hl hp9 hq eq hb9).less (Nat.le_of_ble_eq_true rfl)
  · refine V_loc (L' := [(2, .ref (ka 3)), (1, .ref q0), (0, .ref rd)]) ⟨rfl, rfl, rfl, trivial⟩ ?_
    exact (lp_order_3 hT hKC hrd hw hS hl hp9 hq eq hb9).less (Nat.le_of_ble_eq_true rfl)
  · refine V_loc (L' := [(2, .ref (ka 4)), (1, .ref q0), (0, .ref rd)]) ⟨rfl, rfl, rfl, trivial⟩ ?_
    exact (lp_order_4 hT hKC hrd hw hS hl hp9 hq eq hb9).less (Nat.le_of_ble_eq_true rfl)
  · refine V_loc (L' := [(2, .ref (ka 5)), (1, .ref q0), (0, .ref rd)]) ⟨rfl, rfl, rfl, trivial⟩ ?_
    exact (lp_order_5 hT hKC hrd hw hS hl hp9 hq eq hb9).less (Nat.le_of_ble_eq_true rfl)
  · refine V_loc (L' := [(2, .ref (ka 6)), (1, .ref q0), (0, .ref rd)]) ⟨rfl, rfl, rfl, trivial⟩ ?_
    exact (lp_order_6 hT hKC hrd hw hS hl hp9 hq eq hb9).less (Nat.le_of_ble_eq_true rfl)

