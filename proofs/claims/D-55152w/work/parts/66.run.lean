set_option maxRecDepth 100000
theorem kd_st {b c : Bd} (hk : kd b = 14 ∨ kd b = 101) (h0 : kd c = 0) : kd b ≠ kd c := by
  rcases hk with e | e
  · rw [e, h0]; decide
  · rw [e, h0]; decide
theorem kn17 : ¬ kin 17 := by unfold kin; decide
theorem SB_x {h h' : HP} {a r N : Nat} {l : List Int32} (hS : SB h a r N l) (hf : ∀ q b, kd b = 14 ∨ kd b = 101 → h q = some b → h' q = some b) : SB h' a r N l := by
  obtain ⟨m, g, h1, h2, h3⟩ := hS
  exact ⟨m, g, hf _ _ (Or.inl rfl) h1, hf _ _ (Or.inr rfl) h2, h3⟩
theorem op_C2 {X D R hd u : Nat} {aS : Nat → Nat → Nat} {wS : Nat → Nat → Int32} {sv : Bool} {rs dt v : Int32} {tx la : Nat} {h H : HP} (hO : CO X D R hd u aS sv rs dt tx la h) (hC : CS aS wS u sv h) (hx : Ext h H) : puQ X D R hd u aS wS sv rs dt tx la h (oC v) (.inl (some (.int v))) H := ⟨rfl, hd, u, aS, wS, rs, dt, CO_ext hO hx, CS_ext hC hx, FR_ext hx, rfl, rfl, rfl, rfl⟩
theorem CO_now {X D R hd u : Nat} {aS : Nat → Nat → Nat} {sv : Bool} {rs dt : Int32} {tx la : Nat} {h : HP} (hO : CO X D R hd u aS sv rs dt tx la h) (ad : Nat → Nat) : CO X D R hd u (upS aS 0 ad) sv rs dt tx la (hu h X (bO 0 [.ref (ad 0), svV aS sv, .ref D, .int rs, .int dt, .ref tx, .ref la])) := by
  obtain ⟨h1, h2, h3, h4⟩ := hO
  have e1 : svV (upS aS 0 ad) sv = svV aS sv := by unfold svV; rw [upS_n (by omega)]
  refine ⟨?_, (hu_n (kd_ne h2 h1 (show 13 ≠ 0 by decide))).trans h2, (hu_n (kd_ne h3 h1 (show 1017 ≠ 0 by decide))).trans ?_, h4⟩
  · rw [hu_s, bX, e1, upS_s]
  · rw [h3]
    exact congrArg (fun f => some (bR 3 17 f)) (fDq_cg fun i _ => by rw [upS_n (by omega)])
set_option maxHeartbeats 4000000 in
set_option maxRecDepth 100000 in
theorem run_79 {G : GG} {h : HP} (hT : KT G) {ka : Nat → Nat} (hKC : KC G ka) (hK : KS G) {X D R hd u : Nat} {aS : Nat → Nat → Nat} {wS : Nat → Nat → Int32} {sv : Bool} {rs dt : Int32} {tx la r N : Nat} {T : List Int32} (hO : CO X D R hd u aS sv rs dt tx la h) (hC : CS aS wS u sv h) (hS : SB h tx r N T) {H : HP} {adN : Nat → Nat} {w' : Nat → Int32} (hx : Ext h H) (i2 : cI adN w') (f2 : ∀ k, k < 160 → cdom w' k = true → h (adN k) = none) (s2 : St H adN w') {n9 : Nat} : V G 14 M_X0_run 79 [(3, .int (nI n9)), (2, .ref (adN 0)), (0, .ref X)] [] H 310 (ruQ X D R hd u aS wS sv rs dt tx la h r N (oK (nI n9) w')) := by
  have hO1 := CO_ext hO hx
  have hX1 := hO1.1
  have s0a : H (aS 0 0) = some (cCo (aS 0) (wS 0)) := hx _ _ (s_0 (hC.1 0 (Or.inl rfl)).1)
  first | refine r_aload_n dX0_run_79 rfl ?_ | refine r_aload_nq dX0_run_79 rfl ?_ | refine r_aload_nN dX0_run_79 rfl ?_
  refine r_getfield 0 0 dX0_run_80 rfl (Nat.le_of_ble_eq_true rfl) (lkA q404) (Or.inl rfl) (Or.inl hX1) (by rfl) ?_
  first | refine r_astore dX0_run_83 (Nat.le_of_ble_eq_true rfl) ?_ | refine r_astoreq dX0_run_83 (Nat.le_of_ble_eq_true rfl) ?_ | refine r_astoreN dX0_run_83 (Nat.le_of_ble_eq_true rfl) ?_
  first | refine r_aload_n dX0_run_85 rfl ?_ | refine r_aload_nq dX0_run_85 rfl ?_ | refine r_aload_nN dX0_run_85 rfl ?_
  first | refine r_aload_n dX0_run_86 rfl ?_ | refine r_aload_nq dX0_run_86 rfl ?_ | refine r_aload_nN dX0_run_86 rfl ?_
  refine r_put 0 0 dX0_run_87 rfl (Nat.le_of_ble_eq_true rfl) (lkA q404) (Or.inl rfl) rfl hX1 (by dsimp only [List.set]) (Nat.le_of_ble_eq_true rfl) rfl rfl (by first | exact hu_hu | exact rfl) ?_
  first | refine r_aload_n dX0_run_90 rfl ?_ | refine r_aload_nq dX0_run_90 rfl ?_ | refine r_aload_nN dX0_run_90 rfl ?_
  first | refine r_aload dX0_run_91 rfl ?_ | refine r_aloadq dX0_run_91 rfl ?_ | refine r_aloadN dX0_run_91 rfl ?_
  refine r_iload_n dX0_run_93 rfl ?_
  refine r_invV dX0_run_94 (sp_X0_changed (CO_now hO1 adN) ((hu_n (kd_ne s0a hX1 (show 1 ≠ 0 by decide))).trans s0a) (kd_ne ((hu_n (kd_ne s0a hX1 (show 1 ≠ 0 by decide))).trans s0a) (CO_now hO1 adN).2.1 (show 1 ≠ 13 by decide))) rfl mo_X0_changed (Or.inl (CO_now hO1 adN).1) rfl (lkA q1082) (lkA q1084) (lkA qs13) rfl (lkA q64) mp_X0_changed (Nat.le_of_ble_eq_true rfl) (Nat.le_of_ble_eq_true rfl) (Nat.le_of_ble_eq_true rfl) (kr_r (fun v9 h9 p9 => ?_)) kx_r
  obtain ⟨rfl, hd', u', it', hch, rfl⟩ := p9
  have ef : (fun i => upS aS 0 adN (1 + i) 0) = (fun i => aS (1 + i) 0) := funext fun i => by rw [upS_n (by omega)]
  rw [ef] at hch
  have hpu := op_RU (a := nI n9) hO hC hx i2 f2 s2 hch
  have eXD : X ≠ D := kd_ne hO1.1 hO1.2.1 (show 0 ≠ 13 by decide)
  have eXR : X ≠ R := kd_ne hO1.1 hO1.2.2.1 (show 0 ≠ 1017 by decide)
  have hX5 := (hu_n (b := bDq R hd' u') eXD).trans ((hu_n (b := bDr hd' u' it') eXR).trans (hu_s (h := H) (a := X) (b := bO 0 [.ref (adN 0), svV aS sv, .ref D, .int rs, .int dt, .ref tx, .ref la])))
  have hS1 := SB_x (h' := H) hS (fun q b _ hb => hx q b hb)
  have hS5 : SB (hu (hu (hu H X (bO 0 [.ref (adN 0), svV aS sv, .ref D, .int rs, .int dt, .ref tx, .ref la])) R (bDr hd' u' it')) D (bDq R hd' u')) tx r N T := SB_x hS1 (fun q b hk hb => by
    have e : ∀ c, kd c ≠ 14 → kd c ≠ 101 → kd b ≠ kd c := fun c k1 k2 e => by rcases hk with e2 | e2 <;> omega
    rw [hu_n (kd_ne hb hO1.2.1 (e _ (show 13 ≠ 14 by decide) (show 13 ≠ 101 by decide))), hu_n (kd_ne hb hO1.2.2.1 (e _ (show 1017 ≠ 14 by decide) (show 1017 ≠ 101 by decide))), hu_n (kd_ne hb hO1.1 (e _ (show 0 ≠ 14 by decide) (show 0 ≠ 101 by decide)))]
    exact hb)
  refine r_istore dX0_run_97 (Nat.le_of_ble_eq_true rfl) ?_
  first | refine r_aload_n dX0_run_99 rfl ?_ | refine r_aload_nq dX0_run_99 rfl ?_ | refine r_aload_nN dX0_run_99 rfl ?_
  refine r_getfield 0 5 dX0_run_100 rfl (Nat.le_of_ble_eq_true rfl) (lkA q409) (Or.inl rfl) (Or.inl hX5) (by rfl) ?_
  refine r_iconst (v := 0) dX0_run_103 rfl ?_
  refine r_invV dX0_run_104 (sp_J11_setLength hS5) rfl mo_J11_setLength (Or.inl hS5.choose_spec.choose_spec.1) rfl (lkA q1701) (lkA q1702) (lkA q1703) rfl (lkA q79) mp_J11_setLength (Nat.le_of_ble_eq_true rfl) (Nat.le_of_ble_eq_true rfl) (Nat.le_of_ble_eq_true rfl) (kr_r (fun v9 h9 p9 => ?_)) kx_r
  obtain ⟨rfl, hS6, hf6⟩ := p9
  refine r_iload dX0_run_107 rfl ?_
  exact r_ireturn dX0_run_109 rfl rfl (ru_of hpu hS5.choose_spec.choose_spec.1 hS6 hf6)

set_option maxHeartbeats 4000000 in
set_option maxRecDepth 100000 in
theorem run_110 {G : GG} {h : HP} (hT : KT G) {ka : Nat → Nat} (hKC : KC G ka) (hK : KS G) {X D R hd u : Nat} {aS : Nat → Nat → Nat} {wS : Nat → Nat → Int32} {sv : Bool} {rs dt : Int32} {tx la r N : Nat} {T : List Int32} (hO : CO X D R hd u aS sv rs dt tx la h) (hC : CS aS wS u sv h) (hS : SB h tx r N T) {H : HP} (hx : Ext h H) {q : Nat} {e : Int32} (hq : H q = some (bWro e)) : V G 14 M_X0_run 110 [(0, .ref X)] [.ref q] H 310 (ruQ X D R hd u aS wS sv rs dt tx la h r N (oC (-1000 - e))) := by
  have hX5 := hx _ _ hO.1
  have hS5 := SB_x (h' := H) hS (fun q b _ hb => hx q b hb)
  first | refine r_astore_n dX0_run_110 (Nat.le_of_ble_eq_true rfl) ?_ | refine r_astore_nq dX0_run_110 (Nat.le_of_ble_eq_true rfl) ?_ | refine r_astore_nN dX0_run_110 (Nat.le_of_ble_eq_true rfl) ?_
  refine r_sipush (v := (-1000)) dX0_run_111 rfl ?_
  first | refine r_aload_n dX0_run_114 rfl ?_ | refine r_aload_nq dX0_run_114 rfl ?_ | refine r_aload_nN dX0_run_114 rfl ?_
  refine r_getfieldN 7 6 dX0_run_115 rfl (Nat.le_of_ble_eq_true rfl) (lkT q1567 rfl) (Or.inl rfl) (Or.inl hq) (by rfl) ?_
  refine r_isub dX0_run_118 ?_
  refine r_istore_n dX0_run_119 (Nat.le_of_ble_eq_true rfl) ?_
  first | refine r_aload_n dX0_run_120 rfl ?_ | refine r_aload_nq dX0_run_120 rfl ?_ | refine r_aload_nN dX0_run_120 rfl ?_
  refine r_getfield 0 5 dX0_run_121 rfl (Nat.le_of_ble_eq_true rfl) (lkA q409) (Or.inl rfl) (Or.inl hX5) (by rfl) ?_
  refine r_iconst (v := 0) dX0_run_124 rfl ?_
  refine r_invV dX0_run_125 (sp_J11_setLength hS5) rfl mo_J11_setLength (Or.inl hS5.choose_spec.choose_spec.1) rfl (lkA q1701) (lkA q1702) (lkA q1703) rfl (lkA q79) mp_J11_setLength (Nat.le_of_ble_eq_true rfl) (Nat.le_of_ble_eq_true rfl) (Nat.le_of_ble_eq_true rfl) (kr_r (fun v9 h9 p9 => ?_)) kx_r
  obtain ⟨rfl, hS6, hf6⟩ := p9
  refine r_iload_n dX0_run_128 rfl ?_
  exact r_ireturn dX0_run_129 rfl rfl (ru_of (op_C2 hO hC hx) hS5.choose_spec.choose_spec.1 hS6 hf6)

set_option maxHeartbeats 4000000 in
set_option maxRecDepth 100000 in
theorem run_130 {G : GG} {h : HP} (hT : KT G) {ka : Nat → Nat} (hKC : KC G ka) (hK : KS G) {X D R hd u : Nat} {aS : Nat → Nat → Nat} {wS : Nat → Nat → Int32} {sv : Bool} {rs dt : Int32} {tx la r N : Nat} {T : List Int32} (hO : CO X D R hd u aS sv rs dt tx la h) (hC : CS aS wS u sv h) (hS : SB h tx r N T) {H : HP} (hx : Ext h H) {q : Nat} {a b : Int32} (hq : H q = some (bRef a b)) : V G 14 M_X0_run 130 [(0, .ref X)] [.ref q] H 310 (ruQ X D R hd u aS wS sv rs dt tx la h r N (oR a b)) := by
  first | refine r_astore_n dX0_run_130 (Nat.le_of_ble_eq_true rfl) ?_ | refine r_astore_nq dX0_run_130 (Nat.le_of_ble_eq_true rfl) ?_ | refine r_astore_nN dX0_run_130 (Nat.le_of_ble_eq_true rfl) ?_
  first | refine r_aload_n dX0_run_131 rfl ?_ | refine r_aload_nq dX0_run_131 rfl ?_ | refine r_aload_nN dX0_run_131 rfl ?_
  first | refine r_aload_n dX0_run_132 rfl ?_ | refine r_aload_nq dX0_run_132 rfl ?_ | refine r_aload_nN dX0_run_132 rfl ?_
  refine r_invV dX0_run_133 (sp_X0_refused (hx _ _ hO.1) hq) rfl mo_X0_refused (Or.inl (hx _ _ hO.1)) rfl (lkA q1123) (lkA q1125) (lkA qs16) rfl (lkA q64) mp_X0_refused (Nat.le_of_ble_eq_true rfl) (Nat.le_of_ble_eq_true rfl) (Nat.le_of_ble_eq_true rfl) (kr_e ?_) kx_e
  have hpu := op_R (a := a) (b := b) hO hC hx
  have hX5 := hu_s (h := H) (a := X) (b := bX aS sv D a b tx la)
  have hS5 : SB (hu H X (bX aS sv D a b tx la)) tx r N T := SB_x (SB_x (h' := H) hS (fun q b _ hb => hx q b hb)) (fun q b hk hb => (hu_n (kd_ne hb (hx _ _ hO.1) (kd_st hk rfl))).trans hb)
  refine r_istore_n dX0_run_136 (Nat.le_of_ble_eq_true rfl) ?_
  first | refine r_aload_n dX0_run_137 rfl ?_ | refine r_aload_nq dX0_run_137 rfl ?_ | refine r_aload_nN dX0_run_137 rfl ?_
  refine r_getfield 0 5 dX0_run_138 rfl (Nat.le_of_ble_eq_true rfl) (lkA q409) (Or.inl rfl) (Or.inl hX5) (by rfl) ?_
  refine r_iconst (v := 0) dX0_run_141 rfl ?_
  refine r_invV dX0_run_142 (sp_J11_setLength hS5) rfl mo_J11_setLength (Or.inl hS5.choose_spec.choose_spec.1) rfl (lkA q1701) (lkA q1702) (lkA q1703) rfl (lkA q79) mp_J11_setLength (Nat.le_of_ble_eq_true rfl) (Nat.le_of_ble_eq_true rfl) (Nat.le_of_ble_eq_true rfl) (kr_r (fun v9 h9 p9 => ?_)) kx_r
  obtain ⟨rfl, hS6, hf6⟩ := p9
  refine r_iload_n dX0_run_145 rfl ?_
  exact r_ireturn dX0_run_146 rfl rfl (ru_of hpu hS5.choose_spec.choose_spec.1 hS6 hf6)

set_option maxHeartbeats 4000000 in
set_option maxRecDepth 100000 in
theorem lp_run {G : GG} {h : HP} (hT : KT G) {ka : Nat → Nat} (hKC : KC G ka) (hK : KS G) {X D R hd u : Nat} {aS : Nat → Nat → Nat} {wS : Nat → Nat → Int32} {sv : Bool} {rs dt : Int32} {tx la r N : Nat} {T : List Int32} (hO : CO X D R hd u aS sv rs dt tx la h) (hC : CS aS wS u sv h) (hS : SB h tx r N T) {hB : HP} {os : List Ord1} {lq qi tq : Nat} {nd it : Nat → Nat} (hPI : PI) {D9 : Int} (hD : D9 ≤ 90000) (hxB : Ext h hB) (hL : LkS hB lq nd it os.length) (hit : ∀ (i : Nat) (a : Ord1), os[i]? = some a → hB (it i) = some (bOr ka a)) (h7 : ∀ (i : Nat) (a : Ord1), os[i]? = some a → a.1 < 7) (hln : os.length ≤ 61) (hqB : hB qi = none) (res : OpR) : ∀ (m i : Nat) (H : HP) (ad : Nat → Nat) (w : Nat → Int32) (x0 : Value), i + m = os.length → St H ad w → cI ad w → (∀ k, k < 160 → cdom w k = true → hB (ad k) = none) → Ext hB H → ad 0 = tq → IV (D9 + i) w → H qi = some (bO 17 [x0, va_rf (inx nd os.length i), .int (nI i), .int (nI os.length), .ref lq]) → res = dR (dL (os.drop i) w i) → V G 14 M_X0_run 31 [(4, .ref qi), (3, .int (nI i)), (2, .ref tq), (1, .ref lq), (0, .ref X)] [] H (100 * m + 320) (ruQ X D R hd u aS wS sv rs dt tx la h r N res) := by
  intro m
  induction m with
  | zero =>
    intro i H ad w x0 hm S0 I0 f2 hx e0 hI hq hr
    obtain rfl : i = os.length := by omega
    have hL1 := LkS_fr hL (fun q b _ hb => hx q b hb)
    first | refine r_aload dX0_run_31 rfl ?_ | refine r_aloadq dX0_run_31 rfl ?_ | refine r_aloadN dX0_run_31 rfl ?_
    refine r_invF dX0_run_33 (sp_J24_hasNext hq (nIn (by omega)) hL1.1 (nIn (by omega))) rfl mo_J24_hasNext (Or.inl hq) rfl (lkA q1666) ⟨q519, q518, q548, q546, q544⟩ ⟨by decide +kernel, by decide +kernel⟩ (lkA q545) (lkA q547) rfl (show _ = some 0 from by decide +kernel) (lkA q95) mp_J24_hasNext (Nat.le_of_ble_eq_true rfl) (Nat.le_of_ble_eq_true rfl) (Nat.le_of_ble_eq_true rfl) (kr_e ?_) kx_e
    refine r_if_eq 79 dX0_run_38 rfl (fun c38 => ?_) (fun c38 => absurd c38 (by rw [if_neg (Nat.lt_irrefl _)]; exact fun e => e rfl))
    rw [List.drop_length] at hr
    have hr2 : res = oK (nI os.length) w := hr
    rw [hr2]
    subst e0
    refine V_loc (L' := [(3, .int (nI os.length)), (2, .ref (ad 0)), (0, .ref X)]) ⟨rfl, rfl, rfl, trivial⟩ ?_
    exact (run_79 hT hKC hK hO hC hS (hxB.tr hx) I0 (fun k hk hd => by
      cases e : h (ad k) with
      | none => rfl
      | some b => exact absurd ((hxB _ _ e).symm.trans (f2 k hk hd)) (fun e2 => by cases e2)) S0).less (by omega)
  | succ m ih =>
    intro i H ad w x0 hm S0 I0 f2 hx e0 hI hq hr
    have hi : i < os.length := by omega
    have hL1 := LkS_fr hL (fun q b _ hb => hx q b hb)
    have ea : os[i]? = some os[i] := List.getElem?_eq_getElem hi
    rw [List.drop_eq_getElem_cons hi] at hr
    generalize os[i] = a at ea hr
    have hlt : D9 + (i : Int) < 100000 := by omega
    have hst := fun x w1 e => hPI (D9 + (i : Int)) w a x w1 hlt hI e
    first | refine r_aload dX0_run_31 rfl ?_ | refine r_aloadq dX0_run_31 rfl ?_ | refine r_aloadN dX0_run_31 rfl ?_
    refine r_invF dX0_run_33 (sp_J24_hasNext hq (nIn (by omega)) hL1.1 (nIn (by omega))) rfl mo_J24_hasNext (Or.inl hq) rfl (lkA q1666) ⟨q519, q518, q548, q546, q544⟩ ⟨by decide +kernel, by decide +kernel⟩ (lkA q545) (lkA q547) rfl (show _ = some 0 from by decide +kernel) (lkA q95) mp_J24_hasNext (Nat.le_of_ble_eq_true rfl) (Nat.le_of_ble_eq_true rfl) (Nat.le_of_ble_eq_true rfl) (kr_e ?_) kx_e
    refine r_if_eq 79 dX0_run_38 rfl (fun c38 => absurd c38 (by rw [if_pos hi]; decide)) (fun c38 => ?_)
    first | refine r_aload dX0_run_41 rfl ?_ | refine r_aloadq dX0_run_41 rfl ?_ | refine r_aloadN dX0_run_41 rfl ?_
    refine r_invF dX0_run_43 (sp_J24_next hq (nIn (by omega)) hL1.1 (nIn (by omega)) hL1.2.1 hi) rfl mo_J24_next (Or.inl hq) rfl (lkA q1668) ⟨q553, q552, q855, q853, q544⟩ ⟨by decide +kernel, by decide +kernel⟩ (lkA q852) (lkA q854) rfl (show _ = some 0 from by decide +kernel) (lkA q95) mp_J24_next (Nat.le_of_ble_eq_true rfl) (by omega) (Nat.le_of_ble_eq_true rfl) (kr_e ?_) kx_e
    have S2 := St_hu (b := (bO 17 [.ref (nd i), va_rf (inx nd os.length (i + 1)), .int (nI i + 1), .int (nI os.length), .ref lq])) S0 (cF_kd S0 hq kn17)
    have hx2 : Ext hB (hu H qi (bO 17 [.ref (nd i), va_rf (inx nd os.length (i + 1)), .int (nI i + 1), .int (nI os.length), .ref lq])) := fun z y hz => (hu_n (fun e => by rw [e, hqB] at hz; cases hz)).trans (hx z y hz)
    have ho := hx2 _ _ (hit i a ea)
    refine r_castS dX0_run_48 (Or.inl ho) rfl (lkA q1669) ?_
    first | refine r_astore dX0_run_51 (Nat.le_of_ble_eq_true rfl) ?_ | refine r_astoreq dX0_run_51 (Nat.le_of_ble_eq_true rfl) ?_ | refine r_astoreN dX0_run_51 (Nat.le_of_ble_eq_true rfl) ?_
    have hCt := sp_X9_isDone hT hKC hK S2 I0 (IV_inv hI) (h7 i a ea) ho (fun x w1 e => (hst x w1 e).2)
    rw [e0] at hCt
    first | refine r_aload dX0_run_53 rfl ?_ | refine r_aloadq dX0_run_53 rfl ?_ | refine r_aloadN dX0_run_53 rfl ?_
    first | refine r_aload_n dX0_run_55 rfl ?_ | refine r_aload_nq dX0_run_55 rfl ?_ | refine r_aload_nN dX0_run_55 rfl ?_
    refine r_invV dX0_run_56 hCt rfl mo_X9_isDone (Or.inl ho) rfl (lkA q1670) (lkA q1671) (lkA q1672) rfl (lkA q104) mp_X9_isDone (Nat.le_of_ble_eq_true rfl) (by omega) (Nat.le_of_ble_eq_true rfl) (kr_r (fun v9 h9 p9 => ?_)) kx_r
    rcases p9 with ⟨x9, w9, hr9, rfl, hP9⟩ | ⟨hno, rfl, hx4⟩
    · refine r_if_ne 66 dX0_run_59 rfl (fun c59 => ?_) (fun c59 => absurd c59 (by decide))
      refine r_iconst (v := 0) dX0_run_66 rfl ?_
      refine r_bipush (v := 14) dX0_run_67 rfl ?_
      refine r_iload_n dX0_run_69 rfl ?_
      refine r_invS dX0_run_70 sp_X0_refuse0 rfl mo_X0_refuse (lkA q1700) (lkA q1052) (lkA q64) mp_X0_refuse (Nat.le_of_ble_eq_true rfl) (Nat.le_of_ble_eq_true rfl) (Nat.le_of_ble_eq_true rfl) (kr_e ?_) kx_e
      refine r_inc 1 dX0_run_73 rfl rfl (Nat.le_of_ble_eq_true rfl) ?_
      refine r_goto 31 dX0_run_76 rfl ?_
      rw [dL_k hr9] at hr
      refine V_loc (L' := [(4, .ref qi), (3, .int (nI i + 1)), (2, .ref tq), (1, .ref lq), (0, .ref X)]) ⟨rfl, rfl, rfl, rfl, rfl, trivial⟩ ?_
      rw [← nI_succ]
      obtain ⟨ad3, i3, e3, S3, hx3, f3, k3⟩ := cP_step (hB := hB) S2 hx2 f2 hP9
      refine V.less (c' := 100 * m + 320) ?_ (by omega)
      exact ih (i + 1) _ ad3 w9 (.ref (nd i)) (by omega) S3 i3 f3 hx3 (e3.trans e0) (by have := (hst x9 w9 hr9).1; rw [show D9 + ((i + 1 : Nat) : Int) = D9 + (i : Int) + 1 by omega]; exact this) (by rw [nI_succ]; exact k3 _ _ kn17 hu_s) hr
    · refine r_if_ne 66 dX0_run_59 rfl (fun c59 => absurd c59 (fun e => e rfl)) (fun c59 => ?_)
      refine r_iconst (v := 1) dX0_run_62 rfl ?_
      refine r_goto 67 dX0_run_63 rfl ?_
      refine r_bipush (v := 14) dX0_run_67 rfl ?_
      refine r_iload_n dX0_run_69 rfl ?_
      refine r_invS dX0_run_70 (sp_X0_refuse1 hT.1) rfl mo_X0_refuse (lkA q1700) (lkA q1052) (lkA q64) mp_X0_refuse (Nat.le_of_ble_eq_true rfl) (by omega) (Nat.le_of_ble_eq_true rfl) (fun v9 h9 p9 => ?_) (fun q9 h9 ci9 fs9 p9 hq9 => ?_)
      rotate_left
      · refine r_catch (show h9 q9 = some (bRef 14 (nI i)) by rw [p9.2]; exact hu_s) rfl [_] _ _ rfl (fun z hz => Or.inr (by
          rcases List.mem_singleton.mp hz with rfl
          exact ⟨by decide, "BrushSellers$Wrong", (lkA q1454), fun hG => nc_RW hG⟩)) rfl (by decide) (lkA q430) (lkT q1055 rfl) ?_
        refine V_loc (L' := [(0, .ref X)]) ⟨rfl, trivial⟩ ?_
        rw [hr, show dR (dL (a :: os.drop (i + 1)) w i) = oR 14 (nI i) by rw [dL_n hno]; rfl]
        exact (run_130 hT hKC hK hO hC hS (fun z y hz => by rw [p9.2]; exact hu_o p9.1 (hx4 z y (hx2 z y (hxB z y hz)))) (by rw [p9.2]; exact hu_s)).less (by omega)
      exact p9.elim

theorem SB_o' {h : HP} {a r N q wa : Nat} {b c : Bd} {l : List Int32} (hq : h q = none) (hw : h wa = none) (hS : SB h a r N l) : SB (hu (hu h wa b) q c) a r N l := SB_x hS fun z y _ hz => (hu_n (ne_o hq hz)).trans (hu_o hw hz)
set_option maxHeartbeats 4000000 in
set_option maxRecDepth 100000 in
theorem sp_X0_run {G : GG} {h : HP} (hT : KT G) {ka : Nat → Nat} (hKC : KC G ka) (hK : KS G) {X D R hd u : Nat} {aS : Nat → Nat → Nat} {wS : Nat → Nat → Int32} {sv : Bool} {rs dt : Int32} {tx la r N : Nat} {T : List Int32} (hO : CO X D R hd u aS sv rs dt tx la h) (hC : CS aS wS u sv h) (hS : SB h tx r N T) (hl : T.length ≤ 60) {D9 : Int} (hV : IV D9 (wS 0)) (hD : D9 ≤ 90000) (hPI : PI) : Ct G 14 20000 M_X0_run [.ref X] h (ruQ X D R hd u aS wS sv rs dt tx la h r N (rnR (wS 0) T)) := by
  refine ct_intro my_X0_run (Nat.le_of_ble_eq_true rfl) ?_
  have hI := IV_inv hV
  have hX := hO.1
  have S0 := (hC.1 0 (Or.inl rfl)).1
  have I0 := (hC.1 0 (Or.inl rfl)).2
  obtain ⟨hw2, hw24, hw3, hw34, h6⟩ := inv_w hI
  refine r_new 8 [.null, .null, .int 0] dX0_run_0 rfl (lkA q1455) (lkA q1456) (lkA q103) (fun j hj => match j, hj with | 0, _ => rfl | 1, _ => rfl | 2, _ => rfl | k + 3, hk => absurd hk (Nat.not_lt.mpr (Nat.le_add_left 3 k))) (Nat.le_of_ble_eq_true rfl) (fun q0 hq0 => ?_)
  refine r_dup dX0_run_3 rfl ?_
  first | refine r_aload_n dX0_run_4 rfl ?_ | refine r_aload_nq dX0_run_4 rfl ?_ | refine r_aload_nN dX0_run_4 rfl ?_
  refine r_getfield 0 5 dX0_run_5 rfl (Nat.le_of_ble_eq_true rfl) (lkA q409) (Or.inl rfl) (Or.inl (hu_o hq0 hX)) (by rfl) ?_
  refine r_invI dX0_run_8 (sp_X8_init hT hKC) rfl mo_X8_init (lkA q1457) (lkA q1458) rfl rfl rfl (lkA q103) mp_X8_init (Nat.le_of_ble_eq_true rfl) (Nat.le_of_ble_eq_true rfl) (Nat.le_of_ble_eq_true rfl) (kr_r (fun v9 h9 p9 => ?_)) kx_r
  obtain ⟨rfl, wa, hwa, hwr, rfl⟩ := p9
  have hR0 : RDh ka (RH (hu h wa (bR 4 7 (fWds ka))) q0 wa tx 0) q0 wa tx r N T 0 := ⟨hu_s, (hu_n hwr).trans hu_s, SB_o' hq0 hwa hS, hl, Nat.zero_le _⟩
  have hx1 : Ext h (RH (hu h wa (bR 4 7 (fWds ka))) q0 wa tx 0) := fun z b hb => (hu_n (ne_o hq0 hb)).trans (hu_o hwa hb)
  refine r_invV dX0_run_11 (sp_X8_orders hT hKC hR0) rfl mo_X8_orders (Or.inl hR0.1) rfl (lkA q1480) (lkA q1481) (lkA q1482) rfl (lkA q103) mp_X8_orders (Nat.le_of_ble_eq_true rfl) (Nat.le_of_ble_eq_true rfl) (Nat.le_of_ble_eq_true rfl) (fun v9 h9 p9 => ?_) (fun q9 h9 ci9 fs9 p9 hq9 => ?_)
  rotate_left
  · obtain ⟨hno, hqb, hf9⟩ := p9
    have hx9 : Ext h h9 := fun z b hb => hf9 z b (ne_o hq0 hb) (hx1 z b hb)
    refine r_catch hqb rfl [] _ _ rfl (fun _ h => by cases h) rfl (by decide) (lkA q1454) (lkT q1555 rfl) ?_
    refine V_loc (L' := [(0, .ref X)]) ⟨rfl, trivial⟩ ?_
    rw [rn_n hno]
    exact (run_110 hT hKC hK hO hC hS hx9 hqb).less (Nat.le_of_ble_eq_true rfl)
  obtain ⟨os, lq, hos, rfl, hO9, hf9⟩ := p9
  obtain ⟨nd, it, hL, hit, -, -⟩ := hO9
  have hx9 : Ext h h9 := fun z b hb => hf9 z b (ne_o hq0 hb) (hx1 z b hb)
  have hp7 := pR_7 _ _ _ hos
  have hl61 : os.length ≤ 61 := by omega
  rw [rn_s hos]
  have S9 := St_ext S0 hx9
  first | refine r_astore_n dX0_run_14 (Nat.le_of_ble_eq_true rfl) ?_ | refine r_astore_nq dX0_run_14 (Nat.le_of_ble_eq_true rfl) ?_ | refine r_astore_nN dX0_run_14 (Nat.le_of_ble_eq_true rfl) ?_
  first | refine r_aload_n dX0_run_15 rfl ?_ | refine r_aload_nq dX0_run_15 rfl ?_ | refine r_aload_nN dX0_run_15 rfl ?_
  refine r_getfield 0 0 dX0_run_16 rfl (Nat.le_of_ble_eq_true rfl) (lkA q404) (Or.inl rfl) (Or.inl (hx9 _ _ hX)) (by rfl) ?_
  refine r_invV dX0_run_19 (sp_X1_copy hT.1 S9 I0 hw2 hw24 hw3 hw34 h6) rfl mo_X1_copy (Or.inl (s_0 S9)) rfl (lkA q434) (lkA q435) (lkA q436) rfl (lkA q65) mp_X1_copy (Nat.le_of_ble_eq_true rfl) (Nat.le_of_ble_eq_true rfl) (Nat.le_of_ble_eq_true rfl) (kr_r (fun v9 H1 p9 => ?_)) kx_r
  obtain ⟨ad2, rfl, i2, f2, s2, hx2⟩ := p9
  have hL1 := LkS_fr hL (fun q b _ hb => hx2 q b hb)
  first | refine r_astore_n dX0_run_22 (Nat.le_of_ble_eq_true rfl) ?_ | refine r_astore_nq dX0_run_22 (Nat.le_of_ble_eq_true rfl) ?_ | refine r_astore_nN dX0_run_22 (Nat.le_of_ble_eq_true rfl) ?_
  refine r_iconst (v := 0) dX0_run_23 rfl ?_
  refine r_istore_n dX0_run_24 (Nat.le_of_ble_eq_true rfl) ?_
  first | refine r_aload_n dX0_run_25 rfl ?_ | refine r_aload_nq dX0_run_25 rfl ?_ | refine r_aload_nN dX0_run_25 rfl ?_
  refine r_invU (owner := "java/util/AbstractSequentialList") dX0_run_26 (sp_J3_iterator hL1.1 (nIn (by omega)) hL1.2.1 (by omega)) rfl mo_J3_iterator (Or.inl hL1.1) rfl (lkA q1664) (lkA q903) (Or.inl ⟨(lkA q906), _, _, _, (lkA q907)⟩) ⟨by decide +kernel, by decide +kernel⟩ (lkA q905) (lkA q906) rfl (show _ = some 0 from by decide +kernel) (lkA q69) mp_J3_iterator (Nat.le_of_ble_eq_true rfl) (Nat.le_of_ble_eq_true rfl) (Nat.le_of_ble_eq_true rfl) (kr_r (fun v9 H2 p9 => ?_)) kx_r
  obtain ⟨qi, rfl, hqi, rfl⟩ := p9
  have hqB : h9 qi = none := by
    cases e : h9 qi with
    | none => rfl
    | some b => exact absurd ((hx2 _ _ e).symm.trans hqi) (fun e2 => by cases e2)
  first | refine r_astore dX0_run_29 (Nat.le_of_ble_eq_true rfl) ?_ | refine r_astoreq dX0_run_29 (Nat.le_of_ble_eq_true rfl) ?_ | refine r_astoreN dX0_run_29 (Nat.le_of_ble_eq_true rfl) ?_
  refine V_loc (L' := [(4, .ref qi), (3, .int (nI 0)), (2, .ref (ad2 0)), (1, .ref lq), (0, .ref X)]) ⟨rfl, rfl, rfl, rfl, rfl, trivial⟩ ?_
  refine V.less (c' := 6500) ?_ (Nat.le_of_ble_eq_true rfl)
  refine V.less (c := 6500) (lp_run hT hKC hK hO hC hS hPI hD hx9 hL hit hp7.2 hl61 hqB _ os.length 0 _ ad2 (wS 0) .null (by omega) (St_ext s2 (Ext.new hqi)) i2 f2 (hx2.tr (Ext.new hqi)) rfl ?_ hu_s rfl) (by omega)
  rw [show D9 + ((0 : Nat) : Int) = D9 by omega]
  exact hV

