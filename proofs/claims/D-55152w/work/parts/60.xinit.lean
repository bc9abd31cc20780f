set_option maxRecDepth 100000
theorem xi2 {H H' : HP} {X q r : Nat} {Y Z R N x : Bd} (hH : hu (hu (hu (hu H q Y) r R) q N) X Z = H') (hq : H q = none) (hr : hu H q Y r = none) (hX : H X = some x) : H' X = some Z ∧ H' q = some N ∧ H' r = some R ∧ (∀ z b, z ≠ X → H z = some b → H' z = some b) := by
  subst hH
  have e1 : r ≠ q := (ov_none_hu hr).1
  have hr0 : H r = none := (ov_none_hu hr).2
  have e2 : q ≠ X := fun e => by rw [e, hX] at hq; cases hq
  have e3 : r ≠ X := fun e => by rw [e, hX] at hr0; cases hr0
  refine ⟨hu_s, (hu_n e2).trans hu_s, (hu_n e3).trans ((hu_n e1).trans hu_s), fun z b hz hb => ?_⟩
  have a1 : z ≠ q := fun e => by rw [e, hq] at hb; cases hb
  have a2 : z ≠ r := fun e => by rw [e, hr0] at hb; cases hb
  rw [hu_n hz, hu_n a1, hu_n a2, hu_n a1]
  exact hb
theorem bDr_0 {a b : Nat → Nat} : bDr 0 0 a = bDr 0 0 b := by
  have : fDq 0 0 a = fDq 0 0 b := by
    funext j
    unfold fDq
    rw [if_neg (fun e => Nat.not_lt_zero _ e.2), if_neg (fun e => Nat.not_lt_zero _ e.2)]
  rw [bDr, this]
theorem St_fr2 {h h' : HP} {ad : Nat → Nat} {w : Nat → Int32} {X : Nat} {x : Bd} (hS : St h ad w) (hX : h X = some x) (hk : ¬ kin (kd x)) (hf : ∀ z b, z ≠ X → h z = some b → h' z = some b) : St h' ad w := fun j hj hd => by
  have := hS j hj hd
  refine hf _ _ (fun e => ?_) this
  rw [e, hX] at this
  rw [Option.some.inj this] at hk
  exact hk kd_c
set_option maxHeartbeats 4000000 in
set_option maxRecDepth 100000 in
theorem sp_X0_init {G : GG} {h : HP} (hT : KT G) {ka : Nat → Nat} (hKC : KC G ka) {X : Nat} (hX : h X = some (bO 0 [.null, .null, .null, .int 0, .int 0, .null, .null])) : Ct G 6 2500 M_X0_init [.ref X] h (rQ (fun v h' => v = none ∧ ∃ (ad : Nat → Nat) (D R tx r : Nat), CO X D R 0 0 (fun _ => ad) false 0 0 tx (ka 8) h' ∧ CS (fun _ => ad) (fun _ => wI 3) 0 false h' ∧ SB h' tx r 16 [] ∧ ∀ q b, q ≠ X → h q = some b → h' q = some b)) := by
  refine ct_intro my_X0_init (Nat.le_of_ble_eq_true rfl) ?_
  first | refine r_aload_n dX0_init_0 rfl ?_ | refine r_aload_nq dX0_init_0 rfl ?_ | refine r_aload_nN dX0_init_0 rfl ?_
  refine r_objinit (w1 := .tt) dX0_init_1 (lkA q111) (lkA q112) (lkA q113) (Nat.le_of_ble_eq_true rfl) (Nat.le_of_ble_eq_true rfl) ?_
  first | refine r_aload_n dX0_init_4 rfl ?_ | refine r_aload_nq dX0_init_4 rfl ?_ | refine r_aload_nN dX0_init_4 rfl ?_
  refine r_new 1 [.null, .null, .null, .null, .int 0, .int 0, .int 0, .int 0, .int 0, .int 0, .int 0, .int 0, .int 0, .int 0] dX0_init_5 rfl (lkA q114) (lkA q115) (lkA q65) (fun j hj => match j, hj with | 0, _ => rfl | 1, _ => rfl | 2, _ => rfl | 3, _ => rfl | 4, _ => rfl | 5, _ => rfl | 6, _ => rfl | 7, _ => rfl | 8, _ => rfl | 9, _ => rfl | 10, _ => rfl | 11, _ => rfl | 12, _ => rfl | 13, _ => rfl | k + 14, hk => absurd hk (Nat.not_lt.mpr (Nat.le_add_left 14 k))) (Nat.le_of_ble_eq_true rfl) (fun q5 hq5 => ?_)
  refine r_dup dX0_init_8 rfl ?_
  refine r_invI dX0_init_9 (sp_X1_init hu_s) rfl mo_X1_init (lkA q116) (lkA q117) rfl rfl rfl (lkA q65) mp_X1_init (Nat.le_of_ble_eq_true rfl) (Nat.le_of_ble_eq_true rfl) (Nat.le_of_ble_eq_true rfl) (kr_r (fun v9 h9 p9 => ?_)) kx_r
  obtain ⟨rfl, ad, ead, iad, fad, sad, fr1⟩ := p9
  have eX5 : X ≠ q5 := fun e => by rw [← e, hX] at hq5; cases hq5
  have hX1 := fr1 X _ eX5 (hu_o hq5 hX)
  refine r_put 0 0 dX0_init_12 rfl (Nat.le_of_ble_eq_true rfl) (lkA q404) (Or.inl rfl) rfl hX1 (by dsimp only [List.set]) (Nat.le_of_ble_eq_true rfl) rfl rfl (by first | exact hu_hu | exact rfl) ?_
  refine V_gen (fun H1 hH1 => ?_)
  have hX2 : H1 X = some (bO 0 [.ref q5, .null, .null, .int 0, .int 0, .null, .null]) := by rw [← hH1]; exact hu_s
  have s1 : St H1 ad (wI 3) := by rw [← hH1]; exact St_hu sad (cF_kd sad hX1 kn0)
  have fr2 : ∀ q b, q ≠ X → h q = some b → H1 q = some b := fun q b hq hb => by
    rw [← hH1, hu_n hq]
    exact fr1 q b (fun e => by rw [e, hq5] at hb; cases hb) (hu_o hq5 hb)
  first | refine r_aload_n dX0_init_15 rfl ?_ | refine r_aload_nq dX0_init_15 rfl ?_ | refine r_aload_nN dX0_init_15 rfl ?_
  refine r_new 13 [.null, .int 0, .int 0] dX0_init_16 rfl (lkA q353) (lkA q354) (lkA q77) (fun j hj => match j, hj with | 0, _ => rfl | 1, _ => rfl | 2, _ => rfl | k + 3, hk => absurd hk (Nat.not_lt.mpr (Nat.le_add_left 3 k))) (Nat.le_of_ble_eq_true rfl) (fun q16 hq16 => ?_)
  refine r_dup dX0_init_19 rfl ?_
  refine r_invI dX0_init_20 (sp_J9_init hu_s) rfl mo_J9_init (lkA q355) (lkA q356) rfl rfl rfl (lkA q77) mp_J9_init (Nat.le_of_ble_eq_true rfl) (Nat.le_of_ble_eq_true rfl) (Nat.le_of_ble_eq_true rfl) (kr_r (fun v9 h9 p9 => ?_)) kx_r
  obtain ⟨rfl, R, hr, rfl⟩ := p9
  refine r_putF 0 2 dX0_init_23 rfl (Nat.le_of_ble_eq_true rfl) (lkA q406) rfl rfl rfl ((hu_n (ne_o hq16 hX2)).trans (hu_o hr (hu_o hq16 hX2))) (by dsimp only [List.set]) (Nat.le_of_ble_eq_true rfl) rfl rfl (by first | exact hu_hu | exact rfl) ?_
  refine V_gen (fun H2 hH2 => ?_)
  obtain ⟨hX3, hD3, hR3, fr3⟩ := xi2 hH2 hq16 hr hX2
  have s2 := St_fr2 s1 hX2 kn0 fr3
  first | refine r_aload_n dX0_init_26 rfl ?_ | refine r_aload_nq dX0_init_26 rfl ?_ | refine r_aload_nN dX0_init_26 rfl ?_
  refine r_new 14 [.null, .int 0, .int 0, .int 0] dX0_init_27 rfl (lkA q370) (lkA q371) (lkA q79) (fun j hj => match j, hj with | 0, _ => rfl | 1, _ => rfl | 2, _ => rfl | 3, _ => rfl | k + 4, hk => absurd hk (Nat.not_lt.mpr (Nat.le_add_left 4 k))) (Nat.le_of_ble_eq_true rfl) (fun q27 hq27 => ?_)
  refine r_dup dX0_init_30 rfl ?_
  refine r_invI dX0_init_31 (sp_J11_init hT hu_s) rfl mo_J11_init (lkA q372) (lkA q373) rfl rfl rfl (lkA q79) mp_J11_init (Nat.le_of_ble_eq_true rfl) (Nat.le_of_ble_eq_true rfl) (Nat.le_of_ble_eq_true rfl) (kr_r (fun v9 h9 p9 => ?_)) kx_r
  obtain ⟨rfl, r, hr2, hr3, rfl⟩ := p9
  refine r_putF 0 5 dX0_init_34 rfl (Nat.le_of_ble_eq_true rfl) (lkA q409) rfl rfl rfl ((hu_n (ne_o hq27 hX3)).trans (hu_o hr2 (hu_o hq27 hX3))) (by dsimp only [List.set]) (Nat.le_of_ble_eq_true rfl) rfl rfl (by first | exact hu_hu | exact rfl) ?_
  refine V_gen (fun H3 hH3 => ?_)
  obtain ⟨hX4, hB4, hb4, fr4⟩ := xi2 hH3 hq27 hr2 hX3
  have s3 := St_fr2 s2 hX3 kn0 fr4
  have eDX : q16 ≠ X := kd_ne hD3 hX3 (show 13 ≠ 0 by decide)
  have eRX : R ≠ X := kd_ne hR3 hX3 (show 1017 ≠ 0 by decide)
  have hD4 := fr4 _ _ eDX hD3
  have hR4 := fr4 _ _ eRX hR3
  first | refine r_aload_n dX0_init_37 rfl ?_ | refine r_aload_nq dX0_init_37 rfl ?_ | refine r_aload_nN dX0_init_37 rfl ?_
  refine r_ldcS dX0_init_38 (show Str _ _ _ _ _ from hKC.1 0 (Nat.le_of_ble_eq_true rfl)) ?_
  refine r_put 0 6 dX0_init_40 rfl (Nat.le_of_ble_eq_true rfl) (lkA q410) (Or.inl rfl) rfl hX4 (by dsimp only [List.set]) (Nat.le_of_ble_eq_true rfl) rfl rfl (by first | exact hu_hu | exact rfl) ?_
  exact r_return dX0_init_43 rfl (by
    refine ⟨rfl, ad, q16, R, q27, r, ⟨?_, (hu_n eDX).trans hD4, (hu_n eRX).trans (hR4.trans (congrArg some bDr_0)), by decide, by decide⟩, ⟨fun s hs => ⟨St_hu s3 (cF_kd s3 hX4 kn0), iad⟩, fun s t hst hs ht q => absurd ?_ hst⟩, ⟨0, fun _ => 0, (hu_n (kd_ne hB4 hX4 (show 14 ≠ 0 by decide))).trans hB4, (hu_n (kd_ne hb4 hX4 (show 101 ≠ 0 by decide))).trans hb4, Nat.zero_le _, by decide, fun j _ => show asc 0 by decide, fun j hj => absurd hj (Nat.not_lt_zero j)⟩, fun q b hq hb => ?_⟩
    · show _ = some (bO 0 [.ref (ad 0), .null, .ref q16, .int 0, .int 0, .ref q27, .ref (ka 8)])
      rw [ead]
      exact hu_s
    · rcases hs with e | e | e
      · rcases ht with e2 | e2 | e2
        · rw [e, e2]
        · omega
        · cases e2.2
      · omega
      · cases e.2
    · rw [hu_n hq]
      exact fr4 q b hq (fr3 q b hq (fr2 q b hq hb)))

