set_option maxRecDepth 100000
/-- a new line stands at the object, nothing else of what stood has changed -/
def lnQ (G : GG) (X D : Nat) (aS : Nat → Nat → Nat) (sv : Bool) (rs dt : Int32) (tx : Nat) (h : HP) (l : List Int32) : Oc → HP → Prop := rQ (fun v h' => v = some (.int (nI l.length)) ∧ ∃ la', h' X = some (bX aS sv D rs dt tx la') ∧ ST G h' la' l ∧ ∀ q b, q ≠ X → h q = some b → h' q = some b)
theorem ST_h0 {G : GG} {h : HP} {s X : Nat} {l : List Int32} {b c : Bd} (hS : ST G h s l) (hX : h X = some b) (hk : kd b = 0) : ST G (hu h X c) s l := ST_fr hS fun q b2 hk2 hb => (hu_n (by
  refine kd_ne hb hX ?_
  rw [hk]
  rcases hk2 with e | e <;> rw [e] <;> decide)).trans hb
theorem lnW {G : GG} {X D : Nat} {aS : Nat → Nat → Nat} {sv : Bool} {rs dt : Int32} {tx la la' : Nat} {h h1 : HP} {l : List Int32} (hX : h X = some (bX aS sv D rs dt tx la)) (hS : ST G h1 la' l) (hx : Ext h h1) : lnQ G X D aS sv rs dt tx h l (.inl (some (.int (nI l.length)))) (hu h1 X (bX aS sv D rs dt tx la')) :=
  ⟨rfl, la', hu_s, ST_h0 hS (hx _ _ hX) rfl, fun q b hq hb => (hu_n hq).trans (hx q b hb)⟩
theorem sp_ST_length {G : GG} {h : HP} (hT : KT G) {s : Nat} {l : List Int32} (hS : ST G h s l) : Ct G 1 0 M_J12_length [.ref s] h (eQ (some (.int (nI l.length))) h) := by
  obtain ⟨v, x, y, f, h1, h2, _⟩ := hS
  exact sp_J12_length hT h1 h2
theorem sp_ST_charAt {G : GG} {h : HP} (hT : KT G) {s : Nat} {l : List Int32} (hS : ST G h s l) {j : Nat} {i : Int32} (hj : i.toInt = (j : Int)) (hl : j < l.length) : Ct G 3 0 M_J12_charAt [.ref s, .int i] h (eQ (some (.int (l.getD j 0))) h) := by
  obtain ⟨v, x, y, f, h1, h2, h3, h4, h5⟩ := hS
  rw [← h3 j hl]
  exact sp_J12_charAt hT h1 h2 hj hl (by omega) (by rw [h3 j hl]; exact h4 j hl)
theorem ST_obj {G : GG} {h : HP} {s : Nat} {l : List Int32} (hS : ST G h s l) : ∃ fs, Has G h s (bO 15 fs) := by
  obtain ⟨v, x, y, f, h1, _⟩ := hS
  exact ⟨_, h1⟩
theorem ST_hb {G : GG} {h : HP} {s X : Nat} {fs : List Value} {b c : Bd} (ho : Has G h s (bO 15 fs)) (hX : h X = some b) (hk : kd b = 0) : Has G (hu h X c) s (bO 15 fs) := ho.imp (fun hb => (hu_n (kd_ne hb hX (by rw [hk]; show 15 ≠ 0; decide))).trans hb) id
set_option maxHeartbeats 4000000 in
set_option maxRecDepth 100000 in
theorem sp_X0_tell {G : GG} {h : HP} (hT : KT G) {ka : Nat → Nat} (hKC : KC G ka) {X D R hd u : Nat} {aS : Nat → Nat → Nat} {wS : Nat → Nat → Int32} {sv : Bool} {rs dt : Int32} {tx la : Nat} (hO : CO X D R hd u aS sv rs dt tx la h) (hC : CS aS wS u sv h) {D9 : Int} (hI : Inv D9 (wS 0)) {x : Int32} : Ct G 9 3300 M_X0_tell [.ref X, .int x] h (rQ (fun v h' => if isS (wS 0) x = true then lnQ G X D aS sv rs dt tx h (txS (wS 0) (tn x)) (.inl v) h' else v = some (.int (-11)) ∧ h' = h)) := by
  refine ct_intro my_X0_tell (Nat.le_of_ble_eq_true rfl) ?_
  have hX := hO.1
  have S0 := (hC.1 0 (Or.inl rfl)).1
  have I0 := (hC.1 0 (Or.inl rfl)).2
  obtain ⟨hw2, hw24, hw3, hw34, h6⟩ := inv_w hI
  first | refine r_aload_n dX0_tell_0 rfl ?_ | refine r_aload_nq dX0_tell_0 rfl ?_ | refine r_aload_nN dX0_tell_0 rfl ?_
  refine r_getfield 0 0 dX0_tell_1 rfl (Nat.le_of_ble_eq_true rfl) (lkA q404) (Or.inl rfl) (Or.inl hX) (by rfl) ?_
  refine r_iload_n dX0_tell_4 rfl ?_
  refine r_invV dX0_tell_5 (fl_e S0 (sp_X1_isSeller (h := h) I0 (x := x))) rfl mo_X1_isSeller (Or.inl (s_0 S0)) rfl (lkA q1161) (lkA q1162) (lkA q1163) rfl (lkA q65) mp_X1_isSeller (Nat.le_of_ble_eq_true rfl) (Nat.le_of_ble_eq_true rfl) (Nat.le_of_ble_eq_true rfl) (kr_e ?_) kx_e
  refine r_if_ne 14 dX0_tell_8 rfl (fun c8 => ?_) (fun c8 => ?_)
  · first | refine r_aload_n dX0_tell_14 rfl ?_ | refine r_aload_nq dX0_tell_14 rfl ?_ | refine r_aload_nN dX0_tell_14 rfl ?_
    first | refine r_aload_n dX0_tell_15 rfl ?_ | refine r_aload_nq dX0_tell_15 rfl ?_ | refine r_aload_nN dX0_tell_15 rfl ?_
    refine r_getfield 0 0 dX0_tell_16 rfl (Nat.le_of_ble_eq_true rfl) (lkA q404) (Or.inl rfl) (Or.inl hX) (by rfl) ?_
    refine r_getfieldN 1 1 dX0_tell_19 rfl (Nat.le_of_ble_eq_true rfl) (lkT q299 rfl) (Or.inl rfl) (Or.inl (s_0 S0)) (by rfl) ?_
    refine r_iload_n dX0_tell_22 rfl ?_
    refine r_invV dX0_tell_23 (sp_J2_get (s_3 S0) (s_4 S0) (isS_of hI c8).2.1 (isS_of hI c8).2.2.2 (isS_of hI c8).2.2.1 (fSs_at (tn_lt (isS_of hI c8).2.1 (isS_of hI c8).2.2.2))) rfl mo_J2_get (Or.inl (s_3 S0)) rfl (lkA q1211) (lkA q441) (lkA q442) rfl (lkA q68) mp_J2_get (Nat.le_of_ble_eq_true rfl) (Nat.le_of_ble_eq_true rfl) (Nat.le_of_ble_eq_true rfl) (kr_e ?_) kx_e
    refine r_castS dX0_tell_26 (Or.inl (s_s S0 (tn x) (isS_of hI c8).2.2.1 (tn_lt (isS_of hI c8).2.1 (isS_of hI c8).2.2.2))) rfl (lkA q1212) ?_
    refine r_invV dX0_tell_29 (sp_X4_text hT hKC (s_s S0 (tn x) (isS_of hI c8).2.2.1 (tn_lt (isS_of hI c8).2.1 (isS_of hI c8).2.2.2)) (s_r S0 (tn x) (isS_of hI c8).2.2.1 (tn_lt (isS_of hI c8).2.1 (isS_of hI c8).2.2.2)) (by have := (hI.2.2.2.2.2.1 (tn x) (isS_of hI c8).2.2.2).2.1; unfold gSl at this; omega) (by have := (hI.2.2.2.2.2.1 (tn x) (isS_of hI c8).2.2.2).2.2.1; unfold gSl at this; omega) (fun j hj => by have e := (hI.2.2.2.2.2.1 (tn x) (isS_of hI c8).2.2.2).2.2.2 j hj; unfold fBr; rw [if_pos hj]; unfold gSl at e; omega)) rfl mo_X4_text (Or.inl (s_s S0 (tn x) (isS_of hI c8).2.2.1 (tn_lt (isS_of hI c8).2.1 (isS_of hI c8).2.2.2))) rfl (lkA q1725) (lkA q1726) (lkA q1727) rfl (lkA q91) mp_X4_text (Nat.le_of_ble_eq_true rfl) (Nat.le_of_ble_eq_true rfl) (Nat.le_of_ble_eq_true rfl) (kr_r (fun v9 h9 p9 => ?_)) kx_r
    obtain ⟨s9, rfl, hs9, hx9, hn9⟩ := p9
    rw [show txL (wS 0 (17 + 9 * tn x + 1)) (fBr (wS 0) (tn x) 0) (fBr (wS 0) (tn x) 1) (fBr (wS 0) (tn x) 2) (wS 0 (17 + 9 * tn x + 2)) = txS (wS 0) (tn x) from rfl] at hs9
    have hX9 := hx9 _ _ hX
    obtain ⟨fs9, ho9⟩ := ST_obj hs9
    refine r_put 0 6 dX0_tell_32 rfl (Nat.le_of_ble_eq_true rfl) (lkA q410) (Or.inl rfl) rfl hX9 (by dsimp only [List.set]) (Nat.le_of_ble_eq_true rfl) rfl rfl (by first | exact hu_hu | exact rfl) ?_
    first | refine r_aload_n dX0_tell_35 rfl ?_ | refine r_aload_nq dX0_tell_35 rfl ?_ | refine r_aload_nN dX0_tell_35 rfl ?_
    refine r_getfield 0 6 dX0_tell_36 rfl (Nat.le_of_ble_eq_true rfl) (lkA q410) (Or.inl rfl) (Or.inl hu_s) (by rfl) ?_
    refine r_invV dX0_tell_39 (sp_ST_length hT (ST_h0 hs9 hX9 rfl)) rfl mo_J12_length (ST_hb ho9 hX9 rfl) rfl (lkA q1763) (lkA q721) (lkA q722) rfl (lkA q80) mp_J12_length (Nat.le_of_ble_eq_true rfl) (Nat.le_of_ble_eq_true rfl) (Nat.le_of_ble_eq_true rfl) (kr_e ?_) kx_e
    exact r_ireturn dX0_tell_42 rfl (by first | rfl | exact bi_nar) (by show if isS (wS 0) x = true then _ else _; rw [if_pos (bi_n0.mp c8)]; exact lnW hX hs9 hx9)
  · refine r_bipush (v := (-11)) dX0_tell_11 rfl ?_
    exact r_ireturn dX0_tell_13 rfl (by first | rfl | exact bi_nar) (by show if isS (wS 0) x = true then _ else _; rw [if_neg (fun e => by rw [bi_0.mp c8] at e; cases e)]; exact ⟨rfl, rfl⟩)

set_option maxHeartbeats 4000000 in
set_option maxRecDepth 100000 in
theorem sp_X0_tellStreet {G : GG} {h : HP} (hT : KT G) {ka : Nat → Nat} (hKC : KC G ka) {X D R hd u : Nat} {aS : Nat → Nat → Nat} {wS : Nat → Nat → Int32} {sv : Bool} {rs dt : Int32} {tx la : Nat} (hO : CO X D R hd u aS sv rs dt tx la h) (hC : CS aS wS u sv h) {D9 : Int} (hI : Inv D9 (wS 0))  : Ct G 9 33500 M_X0_tellStreet [.ref X] h (lnQ G X D aS sv rs dt tx h (txT (wS 0) 20)) := by
  refine ct_intro my_X0_tellStreet (Nat.le_of_ble_eq_true rfl) ?_
  have hX := hO.1
  have S0 := (hC.1 0 (Or.inl rfl)).1
  have I0 := (hC.1 0 (Or.inl rfl)).2
  obtain ⟨hw2, hw24, hw3, hw34, h6⟩ := inv_w hI
  first | refine r_aload_n dX0_tellStreet_0 rfl ?_ | refine r_aload_nq dX0_tellStreet_0 rfl ?_ | refine r_aload_nN dX0_tellStreet_0 rfl ?_
  first | refine r_aload_n dX0_tellStreet_1 rfl ?_ | refine r_aload_nq dX0_tellStreet_1 rfl ?_ | refine r_aload_nN dX0_tellStreet_1 rfl ?_
  refine r_getfield 0 0 dX0_tellStreet_2 rfl (Nat.le_of_ble_eq_true rfl) (lkA q404) (Or.inl rfl) (Or.inl hX) (by rfl) ?_
  refine r_invV dX0_tellStreet_5 (sp_X1_streetTold hT hKC S0 (fun m hm => ⟨(hI.2.2.2.2.2.2.1 m hm).1.1, (hI.2.2.2.2.2.2.1 m hm).1.2⟩)) rfl mo_X1_streetTold (Or.inl (s_0 S0)) rfl (lkA q1768) (lkA q1769) (lkA q1770) rfl (lkA q65) mp_X1_streetTold (Nat.le_of_ble_eq_true rfl) (Nat.le_of_ble_eq_true rfl) (Nat.le_of_ble_eq_true rfl) (kr_r (fun v9 h9 p9 => ?_)) kx_r
  obtain ⟨s9, rfl, hs9, hx9, hn9⟩ := p9
  have hX9 := hx9 _ _ hX
  obtain ⟨fs9, ho9⟩ := ST_obj hs9
  refine r_put 0 6 dX0_tellStreet_8 rfl (Nat.le_of_ble_eq_true rfl) (lkA q410) (Or.inl rfl) rfl hX9 (by dsimp only [List.set]) (Nat.le_of_ble_eq_true rfl) rfl rfl (by first | exact hu_hu | exact rfl) ?_
  first | refine r_aload_n dX0_tellStreet_11 rfl ?_ | refine r_aload_nq dX0_tellStreet_11 rfl ?_ | refine r_aload_nN dX0_tellStreet_11 rfl ?_
  refine r_getfield 0 6 dX0_tellStreet_12 rfl (Nat.le_of_ble_eq_true rfl) (lkA q410) (Or.inl rfl) (Or.inl hu_s) (by rfl) ?_
  refine r_invV dX0_tellStreet_15 (sp_ST_length hT (ST_h0 hs9 hX9 rfl)) rfl mo_J12_length (ST_hb ho9 hX9 rfl) rfl (lkA q1763) (lkA q721) (lkA q722) rfl (lkA q80) mp_J12_length (Nat.le_of_ble_eq_true rfl) (Nat.le_of_ble_eq_true rfl) (Nat.le_of_ble_eq_true rfl) (kr_e ?_) kx_e
  exact r_ireturn dX0_tellStreet_18 rfl (by first | rfl | exact bi_nar) (lnW hX hs9 hx9)

def chA (l : List Int32) (i : Int32) : Int32 := if 0 ≤ i.toInt ∧ i.toInt < (l.length : Int) then l.getD (tn i) 0 else -11
theorem chA_i {l : List Int32} {i : Int32} (hl : l.length ≤ 130) : isn i 0 (nI l.length - 1) = true ↔ 0 ≤ i.toInt ∧ i.toInt < (l.length : Int) := by
  have h1 : (1 : Int32).toInt = 1 := rfl
  have h0 : (0 : Int32).toInt = 0 := rfl
  rw [isn_t, tI_sub, nIn (by omega), h1, h0, if_pos (by omega)]
  omega
set_option maxHeartbeats 4000000 in
set_option maxRecDepth 100000 in
theorem sp_X0_character {G : GG} {h : HP} (hT : KT G) {ka : Nat → Nat} (hKC : KC G ka) {X D R hd u : Nat} {aS : Nat → Nat → Nat} {wS : Nat → Nat → Int32} {sv : Bool} {rs dt : Int32} {tx la : Nat} (hO : CO X D R hd u aS sv rs dt tx la h) (hC : CS aS wS u sv h) {D9 : Int} (hI : Inv D9 (wS 0)) {x : Int32} {l : List Int32} (hL : ST G h la l) : Ct G 5 0 M_X0_character [.ref X, .int x] h (eQ (some (.int (chA l x))) h) := by
  refine ct_intro my_X0_character (Nat.le_of_ble_eq_true rfl) ?_
  have hX := hO.1
  have S0 := (hC.1 0 (Or.inl rfl)).1
  have I0 := (hC.1 0 (Or.inl rfl)).2
  obtain ⟨hw2, hw24, hw3, hw34, h6⟩ := inv_w hI
  obtain ⟨fs9, ho9⟩ := ST_obj hL
  have hll := hL.choose_spec.choose_spec.choose_spec.choose_spec.2.2.2.2
  refine r_iload_n dX0_character_0 rfl ?_
  refine r_iconst (v := 0) dX0_character_1 rfl ?_
  first | refine r_aload_n dX0_character_2 rfl ?_ | refine r_aload_nq dX0_character_2 rfl ?_ | refine r_aload_nN dX0_character_2 rfl ?_
  refine r_getfield 0 6 dX0_character_3 rfl (Nat.le_of_ble_eq_true rfl) (lkA q410) (Or.inl rfl) (Or.inl hX) (by rfl) ?_
  refine r_invV dX0_character_6 (sp_ST_length hT hL) rfl mo_J12_length ho9 rfl (lkA q1763) (lkA q721) (lkA q722) rfl (lkA q80) mp_J12_length (Nat.le_of_ble_eq_true rfl) (Nat.le_of_ble_eq_true rfl) (Nat.le_of_ble_eq_true rfl) (kr_e ?_) kx_e
  refine r_iconst (v := 1) dX0_character_9 rfl ?_
  refine r_isub dX0_character_10 ?_
  refine r_invS dX0_character_11 sp_X0_isIn rfl mo_X0_isIn (lkA q431) (lkA q432) (lkA q64) mp_X0_isIn (Nat.le_of_ble_eq_true rfl) (Nat.le_of_ble_eq_true rfl) (Nat.le_of_ble_eq_true rfl) (kr_e ?_) kx_e
  refine r_if_eq 28 dX0_character_14 rfl (fun c14 => ?_) (fun c14 => ?_)
  · refine r_bipush (v := (-11)) dX0_character_28 rfl ?_
    exact r_ireturn dX0_character_30 rfl (by first | rfl | exact bi_nar) ⟨congrArg (fun z => some (Value.int z)) (by unfold chA; rw [if_neg (fun e => by rw [(chA_i hll).mpr e] at c14; exact absurd c14 (by decide))]), rfl⟩
  · first | refine r_aload_n dX0_character_17 rfl ?_ | refine r_aload_nq dX0_character_17 rfl ?_ | refine r_aload_nN dX0_character_17 rfl ?_
    refine r_getfield 0 6 dX0_character_18 rfl (Nat.le_of_ble_eq_true rfl) (lkA q410) (Or.inl rfl) (Or.inl hX) (by rfl) ?_
    refine r_iload_n dX0_character_21 rfl ?_
    refine r_invV dX0_character_22 (sp_ST_charAt hT hL (j := tn x) (by have := (chA_i hll).mp (bi_n0.mp c14); unfold tn; omega) (by have := (chA_i hll).mp (bi_n0.mp c14); unfold tn; omega)) rfl mo_J12_charAt ho9 rfl (lkA q1793) (lkA q1518) (lkA q2248) rfl (lkA q80) mp_J12_charAt (Nat.le_of_ble_eq_true rfl) (Nat.le_of_ble_eq_true rfl) (Nat.le_of_ble_eq_true rfl) (kr_e ?_) kx_e
    refine r_goto 30 dX0_character_25 rfl ?_
    exact r_ireturn dX0_character_30 rfl (by first | rfl | exact bi_nar) ⟨congrArg (fun z => some (Value.int z)) (by unfold chA; rw [if_pos ((chA_i hll).mp (bi_n0.mp c14))]), rfl⟩

def apQ (txt : List Int32) (x : Int32) (tx r : Nat) (h : HP) : Oc → HP → Prop := rQ (fun v h' => if isn x 32 126 = true then (if txt.length = 60 then v = some (.int (-13)) ∧ h' = h else v = some (.int (nI (txt.length + 1))) ∧ ∃ r' N', SB h' tx r' N' (txt ++ [x]) ∧ (r' = r ∨ h r' = none) ∧ ∀ q b, q ≠ tx → q ≠ r → h q = some b → h' q = some b) else v = some (.int (-12)) ∧ h' = h)
set_option maxHeartbeats 4000000 in
set_option maxRecDepth 100000 in
theorem sp_X0_append {G : GG} {h : HP} (hT : KT G) {ka : Nat → Nat} (hKC : KC G ka) {X D R hd u : Nat} {aS : Nat → Nat → Nat} {wS : Nat → Nat → Int32} {sv : Bool} {rs dt : Int32} {tx la : Nat} (hO : CO X D R hd u aS sv rs dt tx la h) (hC : CS aS wS u sv h) {D9 : Int} (hI : Inv D9 (wS 0)) {x : Int32} {r N : Nat} {txt : List Int32} (hS : SB h tx r N txt) (hl : txt.length ≤ 60) : Ct G 7 301 M_X0_append [.ref X, .int x] h (apQ txt x tx r h) := by
  refine ct_intro my_X0_append (Nat.le_of_ble_eq_true rfl) ?_
  have hX := hO.1
  have S0 := (hC.1 0 (Or.inl rfl)).1
  have I0 := (hC.1 0 (Or.inl rfl)).2
  obtain ⟨hw2, hw24, hw3, hw34, h6⟩ := inv_w hI
  have hb0 := hS.choose_spec.choose_spec.1
  have hr0 := hS.choose_spec.choose_spec.2.1
  have eXt : X ≠ tx := kd_ne hX hb0 (show 0 ≠ 14 by decide)
  refine r_iload_n dX0_append_0 rfl ?_
  refine r_bipush (v := 32) dX0_append_1 rfl ?_
  refine r_bipush (v := 126) dX0_append_3 rfl ?_
  refine r_invS dX0_append_5 sp_X0_isIn rfl mo_X0_isIn (lkA q431) (lkA q432) (lkA q64) mp_X0_isIn (Nat.le_of_ble_eq_true rfl) (Nat.le_of_ble_eq_true rfl) (Nat.le_of_ble_eq_true rfl) (kr_e ?_) kx_e
  refine r_if_ne 14 dX0_append_8 rfl (fun c8 => ?_) (fun c8 => ?_)
  · first | refine r_aload_n dX0_append_14 rfl ?_ | refine r_aload_nq dX0_append_14 rfl ?_ | refine r_aload_nN dX0_append_14 rfl ?_
    refine r_getfield 0 5 dX0_append_15 rfl (Nat.le_of_ble_eq_true rfl) (lkA q409) (Or.inl rfl) (Or.inl hX) (by rfl) ?_
    refine r_invV dX0_append_18 (sp_J11_length hS) rfl mo_J11_length (Or.inl hb0) rfl (lkA q1429) (lkA q786) (lkA q2245) rfl (lkA q79) mp_J11_length (Nat.le_of_ble_eq_true rfl) (Nat.le_of_ble_eq_true rfl) (Nat.le_of_ble_eq_true rfl) (kr_e ?_) kx_e
    refine r_bipush (v := 60) dX0_append_21 rfl ?_
    refine r_icmp_ne 29 dX0_append_23 rfl (fun c23 => ?_) (fun c23 => ?_)
    · first | refine r_aload_n dX0_append_29 rfl ?_ | refine r_aload_nq dX0_append_29 rfl ?_ | refine r_aload_nN dX0_append_29 rfl ?_
      refine r_getfield 0 5 dX0_append_30 rfl (Nat.le_of_ble_eq_true rfl) (lkA q409) (Or.inl rfl) (Or.inl hX) (by rfl) ?_
      refine r_iload_n dX0_append_33 rfl ?_
      have hac : asc x := by
        have := isn_t.mp (bi_n0.mp c8)
        have h3 : (32 : Int32).toInt = 32 := rfl
        have h4 : (126 : Int32).toInt = 126 := rfl
        exact ⟨by omega, by omega⟩
      refine r_i2c dX0_append_34 ?_
      rw [asc_i2c hac]
      refine r_invV dX0_append_35 (sp_J11_append_2 hT hS hac (by omega)) rfl mo_J11_append_2 (Or.inl hb0) rfl (lkA q1430) (lkA q1431) (lkA q1432) rfl (lkA q79) mp_J11_append_2 (Nat.le_of_ble_eq_true rfl) (Nat.le_of_ble_eq_true rfl) (Nat.le_of_ble_eq_true rfl) (kr_r (fun v9 h9 p9 => ?_)) kx_r
      obtain ⟨rfl, r', N', hS', hr', hf⟩ := p9
      have hX9 := hf _ _ eXt (kd_ne hX hr0 (show 0 ≠ 101 by decide)) hX
      have hb9 := hS'.choose_spec.choose_spec.1
      refine r_pop dX0_append_38 rfl ?_
      first | refine r_aload_n dX0_append_39 rfl ?_ | refine r_aload_nq dX0_append_39 rfl ?_ | refine r_aload_nN dX0_append_39 rfl ?_
      refine r_getfield 0 5 dX0_append_40 rfl (Nat.le_of_ble_eq_true rfl) (lkA q409) (Or.inl rfl) (Or.inl hX9) (by rfl) ?_
      refine r_invV dX0_append_43 (sp_J11_length hS') rfl mo_J11_length (Or.inl hb9) rfl (lkA q1429) (lkA q786) (lkA q2245) rfl (lkA q79) mp_J11_length (Nat.le_of_ble_eq_true rfl) (Nat.le_of_ble_eq_true rfl) (Nat.le_of_ble_eq_true rfl) (kr_e ?_) kx_e
      exact r_ireturn dX0_append_46 rfl (by first | rfl | exact bi_nar) (by show if _ then _ else _; rw [if_pos (bi_n0.mp c8), if_neg (fun e => c23 (by rw [e]; rfl))]; exact ⟨by rw [List.length_append]; rfl, r', N', hS', hr', hf⟩)
    · refine r_bipush (v := (-13)) dX0_append_26 rfl ?_
      exact r_ireturn dX0_append_28 rfl (by first | rfl | exact bi_nar) (by show if _ then _ else _; rw [if_pos (bi_n0.mp c8), if_pos (by rw [show (60 : Int32) = nI 60 from rfl, nJ_eq (by omega) (by omega)] at c23; omega)]; exact ⟨rfl, rfl⟩)
  · refine r_bipush (v := (-12)) dX0_append_11 rfl ?_
    exact r_ireturn dX0_append_13 rfl (by first | rfl | exact bi_nar) (by show if _ then _ else _; rw [if_neg (fun e => by rw [bi_0.mp c8] at e; cases e)]; exact ⟨rfl, rfl⟩)

def SAcc (w : Nat → Int32) (n u : Int32) : Nat → Nat → Int32 := fun a k => if a = 0 then w k else if k = 3 then n else u
set_option maxHeartbeats 4000000 in
set_option maxRecDepth 100000 in
theorem sp_X0_account {G : GG} {h : HP} (hT : KT G) {ka : Nat → Nat} (hKC : KC G ka) {X D R hd u : Nat} {aS : Nat → Nat → Nat} {wS : Nat → Nat → Int32} {sv : Bool} {rs dt : Int32} {tx la : Nat} (hO : CO X D R hd u aS sv rs dt tx la h) (hC : CS aS wS u sv h) {D9 : Int} (hI : Inv D9 (wS 0)) {x : Int32} {r N : Nat} {txt : List Int32} (hS : SB h tx r N txt) (hl : txt.length ≤ 60) (hB : Bal (wS 0)) : Ct G 8 40 M_X0_account [.ref X, .int x] h (rQ (fun v h' => v = some (.int (oAcc (SAcc (wS 0) (nI txt.length) (nI u)) x)) ∧ Ext h h')) := by
  refine ct_intro my_X0_account (Nat.le_of_ble_eq_true rfl) ?_
  have hX := hO.1
  have S0 := (hC.1 0 (Or.inl rfl)).1
  have I0 := (hC.1 0 (Or.inl rfl)).2
  obtain ⟨hw2, hw24, hw3, hw34, h6⟩ := inv_w hI
  have hb0 := hS.choose_spec.choose_spec.1
  refine r_iload_n dX0_account_0 rfl ?_
  rcases (show x.toInt < 0 ∨ 18 < x.toInt ∨ x.toInt = 0 ∨ x.toInt = 1 ∨ x.toInt = 2 ∨ x.toInt = 3 ∨ x.toInt = 4 ∨ x.toInt = 5 ∨ x.toInt = 6 ∨ x.toInt = 7 ∨ x.toInt = 8 ∨ x.toInt = 9 ∨ x.toInt = 10 ∨ x.toInt = 11 ∨ x.toInt = 12 ∨ x.toInt = 13 ∨ x.toInt = 14 ∨ x.toInt = 15 ∨ x.toInt = 16 ∨ x.toInt = 17 ∨ x.toInt = 18 by omega) with hsw | hsw | hsw | hsw | hsw | hsw | hsw | hsw | hsw | hsw | hsw | hsw | hsw | hsw | hsw | hsw | hsw | hsw | hsw | hsw | hsw
  · refine r_tableOut 288 dX0_account_1 (Or.inl hsw) rfl ?_
    refine r_bipush (v := (-12)) dX0_account_288 rfl ?_
    exact r_ireturn dX0_account_290 rfl (by first | rfl | exact bi_nar) (by refine ⟨?_, Ext.rf⟩; rw [oAcc_out (Or.inl hsw)])
  · refine r_tableOut 288 dX0_account_1 (Or.inr hsw) rfl ?_
    refine r_bipush (v := (-12)) dX0_account_288 rfl ?_
    exact r_ireturn dX0_account_290 rfl (by first | rfl | exact bi_nar) (by refine ⟨?_, Ext.rf⟩; rw [oAcc_out (Or.inr hsw)])
  · obtain rfl : x = 0 := i32_eq.mpr hsw
    refine r_tableIn (off := 91) 92 dX0_account_1 (by decide) (by decide) rfl rfl ?_
    first | refine r_aload_n dX0_account_92 rfl ?_ | refine r_aload_nq dX0_account_92 rfl ?_ | refine r_aload_nN dX0_account_92 rfl ?_
    refine r_getfield 0 0 dX0_account_93 rfl (Nat.le_of_ble_eq_true rfl) (lkA q404) (Or.inl rfl) (Or.inl hX) (by rfl) ?_
    refine r_getfieldN 1 4 dX0_account_96 rfl (Nat.le_of_ble_eq_true rfl) (lkT q305 rfl) (Or.inl rfl) (Or.inl (s_0 S0)) (by rfl) ?_
    refine r_goto 290 dX0_account_99 rfl ?_
    exact r_ireturn dX0_account_290 rfl (by first | rfl | exact bi_nar) (by refine ⟨?_, Ext.rf⟩; rw [oAcc_in 0 rfl (by decide)]; rfl)
  · obtain rfl : x = 1 := i32_eq.mpr hsw
    refine r_tableIn (off := 101) 102 dX0_account_1 (by decide) (by decide) rfl rfl ?_
    first | refine r_aload_n dX0_account_102 rfl ?_ | refine r_aload_nq dX0_account_102 rfl ?_ | refine r_aload_nN dX0_account_102 rfl ?_
    refine r_getfield 0 0 dX0_account_103 rfl (Nat.le_of_ble_eq_true rfl) (lkA q404) (Or.inl rfl) (Or.inl hX) (by rfl) ?_
    refine r_getfieldN 1 5 dX0_account_106 rfl (Nat.le_of_ble_eq_true rfl) (lkT q307 rfl) (Or.inl rfl) (Or.inl (s_0 S0)) (by rfl) ?_
    refine r_goto 290 dX0_account_109 rfl ?_
    exact r_ireturn dX0_account_290 rfl (by first | rfl | exact bi_nar) (by refine ⟨?_, Ext.rf⟩; rw [oAcc_in 1 rfl (by decide)]; rfl)
  · obtain rfl : x = 2 := i32_eq.mpr hsw
    refine r_tableIn (off := 111) 112 dX0_account_1 (by decide) (by decide) rfl rfl ?_
    first | refine r_aload_n dX0_account_112 rfl ?_ | refine r_aload_nq dX0_account_112 rfl ?_ | refine r_aload_nN dX0_account_112 rfl ?_
    refine r_getfield 0 0 dX0_account_113 rfl (Nat.le_of_ble_eq_true rfl) (lkA q404) (Or.inl rfl) (Or.inl hX) (by rfl) ?_
    refine r_getfieldN 1 1 dX0_account_116 rfl (Nat.le_of_ble_eq_true rfl) (lkT q299 rfl) (Or.inl rfl) (Or.inl (s_0 S0)) (by rfl) ?_
    refine r_invV dX0_account_119 (sp_J2_size (s_3 S0)) rfl mo_J2_size (Or.inl (s_3 S0)) rfl (lkA q1802) (lkA q530) (lkA q2242) rfl (lkA q68) mp_J2_size (Nat.le_of_ble_eq_true rfl) (Nat.le_of_ble_eq_true rfl) (Nat.le_of_ble_eq_true rfl) (kr_e ?_) kx_e
    refine r_goto 290 dX0_account_122 rfl ?_
    exact r_ireturn dX0_account_290 rfl (by first | rfl | exact bi_nar) (by refine ⟨?_, Ext.rf⟩; rw [oAcc_in 2 rfl (by decide)]; rfl)
  · obtain rfl : x = 3 := i32_eq.mpr hsw
    refine r_tableIn (off := 124) 125 dX0_account_1 (by decide) (by decide) rfl rfl ?_
    first | refine r_aload_n dX0_account_125 rfl ?_ | refine r_aload_nq dX0_account_125 rfl ?_ | refine r_aload_nN dX0_account_125 rfl ?_
    refine r_getfield 0 0 dX0_account_126 rfl (Nat.le_of_ble_eq_true rfl) (lkA q404) (Or.inl rfl) (Or.inl hX) (by rfl) ?_
    refine r_invV dX0_account_129 (fl_x S0 (sp_X1_dogs (h := h) I0)) rfl mo_X1_dogs (Or.inl (s_0 S0)) rfl (lkA q1803) (lkA q1139) (lkA q1140) rfl (lkA q65) mp_X1_dogs (Nat.le_of_ble_eq_true rfl) (Nat.le_of_ble_eq_true rfl) (Nat.le_of_ble_eq_true rfl) (kr_r (fun v9 h9 p9 => ?_)) kx_r
    obtain ⟨rfl, hx9⟩ := p9
    refine r_goto 290 dX0_account_132 rfl ?_
    exact r_ireturn dX0_account_290 rfl (by first | rfl | exact bi_nar) (by refine ⟨?_, hx9⟩; rw [oAcc_in 3 rfl (by decide)]; rfl)
  · obtain rfl : x = 4 := i32_eq.mpr hsw
    refine r_tableIn (off := 134) 135 dX0_account_1 (by decide) (by decide) rfl rfl ?_
    first | refine r_aload_n dX0_account_135 rfl ?_ | refine r_aload_nq dX0_account_135 rfl ?_ | refine r_aload_nN dX0_account_135 rfl ?_
    refine r_getfield 0 0 dX0_account_136 rfl (Nat.le_of_ble_eq_true rfl) (lkA q404) (Or.inl rfl) (Or.inl hX) (by rfl) ?_
    refine r_invV dX0_account_139 (fl_e S0 (sp_X1_inDepot (h := h) I0)) rfl mo_X1_inDepot (Or.inl (s_0 S0)) rfl (lkA q1804) (lkA q1805) (lkA q1806) rfl (lkA q65) mp_X1_inDepot (Nat.le_of_ble_eq_true rfl) (Nat.le_of_ble_eq_true rfl) (Nat.le_of_ble_eq_true rfl) (kr_e ?_) kx_e
    refine r_goto 290 dX0_account_142 rfl ?_
    exact r_ireturn dX0_account_290 rfl (by first | rfl | exact bi_nar) (by refine ⟨?_, Ext.rf⟩; rw [oAcc_in 4 rfl (by decide)]; rfl)
  · obtain rfl : x = 5 := i32_eq.mpr hsw
    refine r_tableIn (off := 144) 145 dX0_account_1 (by decide) (by decide) rfl rfl ?_
    first | refine r_aload_n dX0_account_145 rfl ?_ | refine r_aload_nq dX0_account_145 rfl ?_ | refine r_aload_nN dX0_account_145 rfl ?_
    refine r_getfield 0 0 dX0_account_146 rfl (Nat.le_of_ble_eq_true rfl) (lkA q404) (Or.inl rfl) (Or.inl hX) (by rfl) ?_
    refine r_invV dX0_account_149 (fl_x S0 (sp_X1_inCases (h := h) I0 (tn (wS 0 2)) hw2 hw24)) rfl mo_X1_inCases (Or.inl (s_0 S0)) rfl (lkA q1808) (lkA q1809) (lkA q1810) rfl (lkA q65) mp_X1_inCases (Nat.le_of_ble_eq_true rfl) (Nat.le_of_ble_eq_true rfl) (Nat.le_of_ble_eq_true rfl) (kr_r (fun v9 h9 p9 => ?_)) kx_r
    obtain ⟨rfl, hx9⟩ := p9
    refine r_goto 290 dX0_account_152 rfl ?_
    exact r_ireturn dX0_account_290 rfl (by first | rfl | exact bi_nar) (by refine ⟨?_, hx9⟩; rw [oAcc_in 5 rfl (by decide)]; rfl)
  · obtain rfl : x = 6 := i32_eq.mpr hsw
    refine r_tableIn (off := 154) 155 dX0_account_1 (by decide) (by decide) rfl rfl ?_
    first | refine r_aload_n dX0_account_155 rfl ?_ | refine r_aload_nq dX0_account_155 rfl ?_ | refine r_aload_nN dX0_account_155 rfl ?_
    refine r_getfield 0 0 dX0_account_156 rfl (Nat.le_of_ble_eq_true rfl) (lkA q404) (Or.inl rfl) (Or.inl hX) (by rfl) ?_
    refine r_getfieldN 1 10 dX0_account_159 rfl (Nat.le_of_ble_eq_true rfl) (lkT q317 rfl) (Or.inl rfl) (Or.inl (s_0 S0)) (by rfl) ?_
    refine r_goto 290 dX0_account_162 rfl ?_
    exact r_ireturn dX0_account_290 rfl (by first | rfl | exact bi_nar) (by refine ⟨?_, Ext.rf⟩; rw [oAcc_in 6 rfl (by decide)]; rfl)
  · obtain rfl : x = 7 := i32_eq.mpr hsw
    refine r_tableIn (off := 164) 165 dX0_account_1 (by decide) (by decide) rfl rfl ?_
    first | refine r_aload_n dX0_account_165 rfl ?_ | refine r_aload_nq dX0_account_165 rfl ?_ | refine r_aload_nN dX0_account_165 rfl ?_
    refine r_getfield 0 0 dX0_account_166 rfl (Nat.le_of_ble_eq_true rfl) (lkA q404) (Or.inl rfl) (Or.inl hX) (by rfl) ?_
    refine r_invV dX0_account_169 (fl_x S0 (sp_X1_sold (h := h) I0 (tn (wS 0 2)) hw2 hw24)) rfl mo_X1_sold (Or.inl (s_0 S0)) rfl (lkA q1816) (lkA q1817) (lkA q1818) rfl (lkA q65) mp_X1_sold (Nat.le_of_ble_eq_true rfl) (Nat.le_of_ble_eq_true rfl) (Nat.le_of_ble_eq_true rfl) (kr_r (fun v9 h9 p9 => ?_)) kx_r
    obtain ⟨rfl, hx9⟩ := p9
    refine r_goto 290 dX0_account_172 rfl ?_
    exact r_ireturn dX0_account_290 rfl (by first | rfl | exact bi_nar) (by refine ⟨?_, hx9⟩; rw [oAcc_in 7 rfl (by decide)]; exact congrArg (fun z => some (Value.int z)) hB.1)
  · obtain rfl : x = 8 := i32_eq.mpr hsw
    refine r_tableIn (off := 174) 175 dX0_account_1 (by decide) (by decide) rfl rfl ?_
    first | refine r_aload_n dX0_account_175 rfl ?_ | refine r_aload_nq dX0_account_175 rfl ?_ | refine r_aload_nN dX0_account_175 rfl ?_
    refine r_getfield 0 0 dX0_account_176 rfl (Nat.le_of_ble_eq_true rfl) (lkA q404) (Or.inl rfl) (Or.inl hX) (by rfl) ?_
    refine r_invV dX0_account_179 (fl_x S0 (sp_X1_back (h := h) I0 (tn (wS 0 2)) hw2 hw24)) rfl mo_X1_back (Or.inl (s_0 S0)) rfl (lkA q1820) (lkA q1821) (lkA q1822) rfl (lkA q65) mp_X1_back (Nat.le_of_ble_eq_true rfl) (Nat.le_of_ble_eq_true rfl) (Nat.le_of_ble_eq_true rfl) (kr_r (fun v9 h9 p9 => ?_)) kx_r
    obtain ⟨rfl, hx9⟩ := p9
    refine r_goto 290 dX0_account_182 rfl ?_
    exact r_ireturn dX0_account_290 rfl (by first | rfl | exact bi_nar) (by refine ⟨?_, hx9⟩; rw [oAcc_in 8 rfl (by decide)]; exact congrArg (fun z => some (Value.int z)) hB.2)
  · obtain rfl : x = 9 := i32_eq.mpr hsw
    refine r_tableIn (off := 184) 185 dX0_account_1 (by decide) (by decide) rfl rfl ?_
    first | refine r_aload_n dX0_account_185 rfl ?_ | refine r_aload_nq dX0_account_185 rfl ?_ | refine r_aload_nN dX0_account_185 rfl ?_
    refine r_getfield 0 0 dX0_account_186 rfl (Nat.le_of_ble_eq_true rfl) (lkA q404) (Or.inl rfl) (Or.inl hX) (by rfl) ?_
    refine r_getfieldN 1 11 dX0_account_189 rfl (Nat.le_of_ble_eq_true rfl) (lkT q319 rfl) (Or.inl rfl) (Or.inl (s_0 S0)) (by rfl) ?_
    refine r_goto 290 dX0_account_192 rfl ?_
    exact r_ireturn dX0_account_290 rfl (by first | rfl | exact bi_nar) (by refine ⟨?_, Ext.rf⟩; rw [oAcc_in 9 rfl (by decide)]; rfl)
  · obtain rfl : x = 10 := i32_eq.mpr hsw
    refine r_tableIn (off := 194) 195 dX0_account_1 (by decide) (by decide) rfl rfl ?_
    first | refine r_aload_n dX0_account_195 rfl ?_ | refine r_aload_nq dX0_account_195 rfl ?_ | refine r_aload_nN dX0_account_195 rfl ?_
    refine r_getfield 0 0 dX0_account_196 rfl (Nat.le_of_ble_eq_true rfl) (lkA q404) (Or.inl rfl) (Or.inl hX) (by rfl) ?_
    refine r_getfieldN 1 6 dX0_account_199 rfl (Nat.le_of_ble_eq_true rfl) (lkT q309 rfl) (Or.inl rfl) (Or.inl (s_0 S0)) (by rfl) ?_
    refine r_goto 290 dX0_account_202 rfl ?_
    exact r_ireturn dX0_account_290 rfl (by first | rfl | exact bi_nar) (by refine ⟨?_, Ext.rf⟩; rw [oAcc_in 10 rfl (by decide)]; rfl)
  · obtain rfl : x = 11 := i32_eq.mpr hsw
    refine r_tableIn (off := 204) 205 dX0_account_1 (by decide) (by decide) rfl rfl ?_
    first | refine r_aload_n dX0_account_205 rfl ?_ | refine r_aload_nq dX0_account_205 rfl ?_ | refine r_aload_nN dX0_account_205 rfl ?_
    refine r_getfield 0 0 dX0_account_206 rfl (Nat.le_of_ble_eq_true rfl) (lkA q404) (Or.inl rfl) (Or.inl hX) (by rfl) ?_
    refine r_getfieldN 1 7 dX0_account_209 rfl (Nat.le_of_ble_eq_true rfl) (lkT q311 rfl) (Or.inl rfl) (Or.inl (s_0 S0)) (by rfl) ?_
    refine r_goto 290 dX0_account_212 rfl ?_
    exact r_ireturn dX0_account_290 rfl (by first | rfl | exact bi_nar) (by refine ⟨?_, Ext.rf⟩; rw [oAcc_in 11 rfl (by decide)]; rfl)
  · obtain rfl : x = 12 := i32_eq.mpr hsw
    refine r_tableIn (off := 214) 215 dX0_account_1 (by decide) (by decide) rfl rfl ?_
    first | refine r_aload_n dX0_account_215 rfl ?_ | refine r_aload_nq dX0_account_215 rfl ?_ | refine r_aload_nN dX0_account_215 rfl ?_
    refine r_getfield 0 0 dX0_account_216 rfl (Nat.le_of_ble_eq_true rfl) (lkA q404) (Or.inl rfl) (Or.inl hX) (by rfl) ?_
    refine r_getfieldN 1 8 dX0_account_219 rfl (Nat.le_of_ble_eq_true rfl) (lkT q313 rfl) (Or.inl rfl) (Or.inl (s_0 S0)) (by rfl) ?_
    refine r_goto 290 dX0_account_222 rfl ?_
    exact r_ireturn dX0_account_290 rfl (by first | rfl | exact bi_nar) (by refine ⟨?_, Ext.rf⟩; rw [oAcc_in 12 rfl (by decide)]; rfl)
  · obtain rfl : x = 13 := i32_eq.mpr hsw
    refine r_tableIn (off := 224) 225 dX0_account_1 (by decide) (by decide) rfl rfl ?_
    first | refine r_aload_n dX0_account_225 rfl ?_ | refine r_aload_nq dX0_account_225 rfl ?_ | refine r_aload_nN dX0_account_225 rfl ?_
    refine r_getfield 0 0 dX0_account_226 rfl (Nat.le_of_ble_eq_true rfl) (lkA q404) (Or.inl rfl) (Or.inl hX) (by rfl) ?_
    refine r_getfieldN 1 9 dX0_account_229 rfl (Nat.le_of_ble_eq_true rfl) (lkT q315 rfl) (Or.inl rfl) (Or.inl (s_0 S0)) (by rfl) ?_
    refine r_goto 290 dX0_account_232 rfl ?_
    exact r_ireturn dX0_account_290 rfl (by first | rfl | exact bi_nar) (by refine ⟨?_, Ext.rf⟩; rw [oAcc_in 13 rfl (by decide)]; rfl)
  · obtain rfl : x = 14 := i32_eq.mpr hsw
    refine r_tableIn (off := 234) 235 dX0_account_1 (by decide) (by decide) rfl rfl ?_
    first | refine r_aload_n dX0_account_235 rfl ?_ | refine r_aload_nq dX0_account_235 rfl ?_ | refine r_aload_nN dX0_account_235 rfl ?_
    refine r_getfield 0 0 dX0_account_236 rfl (Nat.le_of_ble_eq_true rfl) (lkA q404) (Or.inl rfl) (Or.inl hX) (by rfl) ?_
    refine r_getfieldN 1 2 dX0_account_239 rfl (Nat.le_of_ble_eq_true rfl) (lkT q301 rfl) (Or.inl rfl) (Or.inl (s_0 S0)) (by rfl) ?_
    refine r_invV dX0_account_242 (sp_J4_size (s_5 S0)) rfl mo_J4_size (Or.inl (s_5 S0)) rfl (lkA q1824) (lkA q533) (lkA q2243) rfl (lkA q70) mp_J4_size (Nat.le_of_ble_eq_true rfl) (Nat.le_of_ble_eq_true rfl) (Nat.le_of_ble_eq_true rfl) (kr_e ?_) kx_e
    refine r_goto 290 dX0_account_245 rfl ?_
    exact r_ireturn dX0_account_290 rfl (by first | rfl | exact bi_nar) (by refine ⟨?_, Ext.rf⟩; rw [oAcc_in 14 rfl (by decide)]; rfl)
  · obtain rfl : x = 15 := i32_eq.mpr hsw
    refine r_tableIn (off := 247) 248 dX0_account_1 (by decide) (by decide) rfl rfl ?_
    first | refine r_aload_n dX0_account_248 rfl ?_ | refine r_aload_nq dX0_account_248 rfl ?_ | refine r_aload_nN dX0_account_248 rfl ?_
    refine r_getfield 0 0 dX0_account_249 rfl (Nat.le_of_ble_eq_true rfl) (lkA q404) (Or.inl rfl) (Or.inl hX) (by rfl) ?_
    refine r_getfieldN 1 12 dX0_account_252 rfl (Nat.le_of_ble_eq_true rfl) (lkT q321 rfl) (Or.inl rfl) (Or.inl (s_0 S0)) (by rfl) ?_
    refine r_goto 290 dX0_account_255 rfl ?_
    exact r_ireturn dX0_account_290 rfl (by first | rfl | exact bi_nar) (by refine ⟨?_, Ext.rf⟩; rw [oAcc_in 15 rfl (by decide)]; rfl)
  · obtain rfl : x = 16 := i32_eq.mpr hsw
    refine r_tableIn (off := 257) 258 dX0_account_1 (by decide) (by decide) rfl rfl ?_
    first | refine r_aload_n dX0_account_258 rfl ?_ | refine r_aload_nq dX0_account_258 rfl ?_ | refine r_aload_nN dX0_account_258 rfl ?_
    refine r_getfield 0 0 dX0_account_259 rfl (Nat.le_of_ble_eq_true rfl) (lkA q404) (Or.inl rfl) (Or.inl hX) (by rfl) ?_
    refine r_getfieldN 1 13 dX0_account_262 rfl (Nat.le_of_ble_eq_true rfl) (lkT q323 rfl) (Or.inl rfl) (Or.inl (s_0 S0)) (by rfl) ?_
    refine r_goto 290 dX0_account_265 rfl ?_
    exact r_ireturn dX0_account_290 rfl (by first | rfl | exact bi_nar) (by refine ⟨?_, Ext.rf⟩; rw [oAcc_in 16 rfl (by decide)]; rfl)
  · obtain rfl : x = 17 := i32_eq.mpr hsw
    refine r_tableIn (off := 267) 268 dX0_account_1 (by decide) (by decide) rfl rfl ?_
    first | refine r_aload_n dX0_account_268 rfl ?_ | refine r_aload_nq dX0_account_268 rfl ?_ | refine r_aload_nN dX0_account_268 rfl ?_
    refine r_getfield 0 5 dX0_account_269 rfl (Nat.le_of_ble_eq_true rfl) (lkA q409) (Or.inl rfl) (Or.inl hX) (by rfl) ?_
    refine r_invV dX0_account_272 (sp_J11_length hS) rfl mo_J11_length (Or.inl hb0) rfl (lkA q1429) (lkA q786) (lkA q2245) rfl (lkA q79) mp_J11_length (Nat.le_of_ble_eq_true rfl) (Nat.le_of_ble_eq_true rfl) (Nat.le_of_ble_eq_true rfl) (kr_e ?_) kx_e
    refine r_goto 290 dX0_account_275 rfl ?_
    exact r_ireturn dX0_account_290 rfl (by first | rfl | exact bi_nar) (by refine ⟨?_, Ext.rf⟩; rw [oAcc_in 17 rfl (by decide)]; rfl)
  · obtain rfl : x = 18 := i32_eq.mpr hsw
    refine r_tableIn (off := 277) 278 dX0_account_1 (by decide) (by decide) rfl rfl ?_
    first | refine r_aload_n dX0_account_278 rfl ?_ | refine r_aload_nq dX0_account_278 rfl ?_ | refine r_aload_nN dX0_account_278 rfl ?_
    refine r_getfield 0 2 dX0_account_279 rfl (Nat.le_of_ble_eq_true rfl) (lkA q406) (Or.inl rfl) (Or.inl hX) (by rfl) ?_
    refine r_invV dX0_account_282 (sp_J9_size hO.2.1 hO.2.2.1 hO.2.2.2.1 (by have := hO.2.2.2.2; omega)) rfl mo_J9_size (Or.inl hO.2.1) rfl (lkA q1105) (lkA q1106) (lkA q1107) rfl (lkA q77) mp_J9_size (Nat.le_of_ble_eq_true rfl) (Nat.le_of_ble_eq_true rfl) (Nat.le_of_ble_eq_true rfl) (kr_e ?_) kx_e
    refine r_goto 290 dX0_account_285 rfl ?_
    exact r_ireturn dX0_account_290 rfl (by first | rfl | exact bi_nar) (by refine ⟨?_, Ext.rf⟩; rw [oAcc_in 18 rfl (by decide)]; rfl)

