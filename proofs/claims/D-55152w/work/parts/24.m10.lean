set_option maxRecDepth 100000
set_option maxHeartbeats 4000000 in
set_option maxRecDepth 100000 in
theorem sp_X3_ends {G : GG} {A : Nat → Nat} {S : Nat → Nat → Int32} {h : HP} (hi : inj 8 mdom A) {x : Int32} (u : Nat) (hu : (S 7 0).toInt = (u : Int)) (hu8 : u ≤ 8)  : Ct G 1 0 M_X3_ends [.ref (A 7), .int x] (ov (mdH A S) h) (eQ (some (.int (if x = 0 then S 7 8 else x))) (ov (mdH A (if x = 0 then ss (sa S 2 (mKeepA S)) 0 (mKeepU S) else S)) h)) := by
  refine ct_intro my_X3_ends (Nat.le_of_ble_eq_true rfl) ?_
  refine r_iload_n dX3_ends_0 rfl ?_
  refine r_if_ne 15 dX3_ends_1 rfl (fun c1 => ?_) (fun c1 => ?_)
  · refine r_iload_n dX3_ends_15 rfl ?_
    exact r_ireturn dX3_ends_16 rfl (by first | rfl | exact bi_nar) (by rw [if_neg c1, if_neg c1]; exact ⟨rfl, rfl⟩)
  · first | refine r_aload_n dX3_ends_4 rfl ?_ | refine r_aload_nq dX3_ends_4 rfl ?_ | refine r_aload_nN dX3_ends_4 rfl ?_
    first | refine r_aload_n dX3_ends_5 rfl ?_ | refine r_aload_nq dX3_ends_5 rfl ?_ | refine r_aload_nN dX3_ends_5 rfl ?_
    refine r_getfield 3 15 dX3_ends_6 rfl (Nat.le_of_ble_eq_true rfl) (lkA q1905) (Or.inl rfl) (Or.inl (m_o hi)) (by rfl) ?_
    refine r_invV dX3_ends_9 (sp_X3_keeps hi u hu hu8) rfl mo_X3_keeps (Or.inl (m_o hi)) rfl (lkA q1954) (lkA q1956) (lkA qs32) rfl (lkA q82) mp_X3_keeps (Nat.le_of_ble_eq_true rfl) (Nat.le_of_ble_eq_true rfl) (Nat.le_of_ble_eq_true rfl) (kr_e ?_) kx_e
    refine r_goto 16 dX3_ends_12 rfl ?_
    exact r_ireturn dX3_ends_16 rfl (by first | rfl | exact bi_nar) (by rw [if_pos c1, if_pos c1]; exact ⟨rfl, rfl⟩)

def codes (r : OpR) : Prop := match r with
  | .inl v => v ≠ 0
  | _ => True
theorem pub_end {A : Nat → Nat} {S : Nat → Nat → Int32} {h : HP} {r : OpR} (hc : codes r) : mPubQ A S h r (.inl (some (.int (if (mres (sa S 1 (cpN 413 (S 0) (S 1))) r).1 = 0 then (mres (sa S 1 (cpN 413 (S 0) (S 1))) r).2 7 8 else (mres (sa S 1 (cpN 413 (S 0) (S 1))) r).1)))) (ov (mdH A (if (mres (sa S 1 (cpN 413 (S 0) (S 1))) r).1 = 0 then ss (sa (mres (sa S 1 (cpN 413 (S 0) (S 1))) r).2 2 (mKeepA (mres (sa S 1 (cpN 413 (S 0) (S 1))) r).2)) 0 (mKeepU (mres (sa S 1 (cpN 413 (S 0) (S 1))) r).2) else (mres (sa S 1 (cpN 413 (S 0) (S 1))) r).2)) h) := by
  rcases r with v | a | a
  · have hv : ¬ v = 0 := hc
    show mPubQ A S h (oC v) (.inl (some (.int (if v = 0 then _ else v)))) (ov (mdH A (if v = 0 then _ else _)) h)
    rw [if_neg hv, if_neg hv]
    exact mE_C rfl rfl
  · show mPubQ A S h (oR a.1 a.2) (.inl (some (.int (if (-14 : Int32) = 0 then _ else -14)))) (ov (mdH A (if (-14 : Int32) = 0 then _ else _)) h)
    rw [if_neg (by decide), if_neg (by decide)]
    exact mE_R rfl rfl
  · show mPubQ A S h (oK a.1 a.2) (.inl (some (.int (if (0 : Int32) = 0 then (ss (sa (sa S 1 (cpN 413 (S 0) (S 1))) 0 a.2) 8 a.1) 7 8 else _)))) (ov (mdH A (if (0 : Int32) = 0 then ss (sa (ss (sa (sa S 1 (cpN 413 (S 0) (S 1))) 0 a.2) 8 a.1) 2 (mKeepA (ss (sa (sa S 1 (cpN 413 (S 0) (S 1))) 0 a.2) 8 a.1))) 0 (mKeepU (ss (sa (sa S 1 (cpN 413 (S 0) (S 1))) 0 a.2) 8 a.1)) else _)) h)
    rw [if_pos rfl, if_pos rfl]
    rw [show (ss (sa (sa S 1 (cpN 413 (S 0) (S 1))) 0 a.2) 8 a.1) 7 8 = a.1 from rfl]
    exact mE_K (S1 := ss (sa (sa S 1 (cpN 413 (S 0) (S 1))) 0 a.2) 8 a.1) rfl rfl rfl rfl rfl rfl rfl (fun k hk h4 h5 => by match k, hk, h4, h5 with | 0, _, _, _ => rfl | 1, _, _, _ => rfl | 2, _, _, _ => rfl | 3, _, _, _ => rfl | 6, _, _, _ => rfl | 7, _, _, _ => rfl)
theorem mres_70 {S : Nat → Nat → Int32} {r : OpR} : (mres S r).2 7 0 = S 7 0 := by rcases r with v | a | a <;> rfl
theorem codes_oTakes {w : Nat → Int32} {x y z : Int32} : codes (oTakes w x y z) := by
  unfold oTakes gTakeR
  repeat' split
  all_goals first | trivial | (show _ ≠ _; decide)
set_option maxHeartbeats 4000000 in
set_option maxRecDepth 100000 in
theorem sp_X3_take {G : GG} {A : Nat → Nat} {S : Nat → Nat → Int32} {h : HP} (hi : inj 8 mdom A) {D : Int} (hI : Inv D (S 0)) {x y z : Int32} (u : Nat) (hu : (S 7 0).toInt = (u : Int)) (hu8 : u ≤ 8)  : Ct G 3 0 M_X3_take [.ref (A 7), .int x, .int y, .int z] (ov (mdH A S) h) (mPubQ A S h (oTakes (S 0) x y z)) := by
  refine ct_intro my_X3_take (Nat.le_of_ble_eq_true rfl) ?_
  first | refine r_aload_n dX3_take_0 rfl ?_ | refine r_aload_nq dX3_take_0 rfl ?_ | refine r_aload_nN dX3_take_0 rfl ?_
  refine r_invV dX3_take_1 (sp_X3_tries hi) rfl mo_X3_tries (Or.inl (m_o hi)) rfl (lkA q1943) (lkA q1945) (lkA qs30) rfl (lkA q82) mp_X3_tries (Nat.le_of_ble_eq_true rfl) (Nat.le_of_ble_eq_true rfl) (Nat.le_of_ble_eq_true rfl) (kr_e ?_) kx_e
  first | refine r_aload_n dX3_take_4 rfl ?_ | refine r_aload_nq dX3_take_4 rfl ?_ | refine r_aload_nN dX3_take_4 rfl ?_
  first | refine r_aload_n dX3_take_5 rfl ?_ | refine r_aload_nq dX3_take_5 rfl ?_ | refine r_aload_nN dX3_take_5 rfl ?_
  refine r_iload_n dX3_take_6 rfl ?_
  refine r_iload_n dX3_take_7 rfl ?_
  refine r_iload_n dX3_take_8 rfl ?_
  refine r_invV dX3_take_9 (sp_X3_takes (S := sa S 1 (cpN 413 (S 0) (S 1))) hi hI) rfl mo_X3_takes (Or.inl (m_o hi)) rfl (lkA q1988) (lkA q1990) (lkA qs36) rfl (lkA q82) mp_X3_takes (Nat.le_of_ble_eq_true rfl) (Nat.le_of_ble_eq_true rfl) (Nat.le_of_ble_eq_true rfl) (kr_e ?_) kx_e
  refine r_invV dX3_take_12 (sp_X3_ends hi u (by rw [mres_70]; exact hu) hu8) rfl mo_X3_ends (Or.inl (m_o hi)) rfl (lkA q2008) (lkA q2010) (lkA qs41) rfl (lkA q82) mp_X3_ends (Nat.le_of_ble_eq_true rfl) (Nat.le_of_ble_eq_true rfl) (Nat.le_of_ble_eq_true rfl) (kr_e ?_) kx_e
  exact r_ireturn dX3_take_15 rfl (by first | rfl | exact bi_nar) (pub_end codes_oTakes)

theorem codes_oGoes {w : Nat → Int32} {x y : Int32} : codes (oGoes w x y) := by
  unfold oGoes gGoR
  repeat' split
  all_goals first | trivial | (show _ ≠ _; decide)
set_option maxHeartbeats 4000000 in
set_option maxRecDepth 100000 in
theorem sp_X3_go {G : GG} {A : Nat → Nat} {S : Nat → Nat → Int32} {h : HP} (hi : inj 8 mdom A) {D : Int} (hI : Inv D (S 0)) {x y : Int32} (u : Nat) (hu : (S 7 0).toInt = (u : Int)) (hu8 : u ≤ 8)  : Ct G 3 0 M_X3_go [.ref (A 7), .int x, .int y] (ov (mdH A S) h) (mPubQ A S h (oGoes (S 0) x y)) := by
  refine ct_intro my_X3_go (Nat.le_of_ble_eq_true rfl) ?_
  first | refine r_aload_n dX3_go_0 rfl ?_ | refine r_aload_nq dX3_go_0 rfl ?_ | refine r_aload_nN dX3_go_0 rfl ?_
  refine r_invV dX3_go_1 (sp_X3_tries hi) rfl mo_X3_tries (Or.inl (m_o hi)) rfl (lkA q1943) (lkA q1945) (lkA qs30) rfl (lkA q82) mp_X3_tries (Nat.le_of_ble_eq_true rfl) (Nat.le_of_ble_eq_true rfl) (Nat.le_of_ble_eq_true rfl) (kr_e ?_) kx_e
  first | refine r_aload_n dX3_go_4 rfl ?_ | refine r_aload_nq dX3_go_4 rfl ?_ | refine r_aload_nN dX3_go_4 rfl ?_
  first | refine r_aload_n dX3_go_5 rfl ?_ | refine r_aload_nq dX3_go_5 rfl ?_ | refine r_aload_nN dX3_go_5 rfl ?_
  refine r_iload_n dX3_go_6 rfl ?_
  refine r_iload_n dX3_go_7 rfl ?_
  refine r_invV dX3_go_8 (sp_X3_goes (S := sa S 1 (cpN 413 (S 0) (S 1))) hi hI) rfl mo_X3_goes (Or.inl (m_o hi)) rfl (lkA q2035) (lkA q2037) (lkA qs43) rfl (lkA q82) mp_X3_goes (Nat.le_of_ble_eq_true rfl) (Nat.le_of_ble_eq_true rfl) (Nat.le_of_ble_eq_true rfl) (kr_e ?_) kx_e
  refine r_invV dX3_go_11 (sp_X3_ends hi u (by rw [mres_70]; exact hu) hu8) rfl mo_X3_ends (Or.inl (m_o hi)) rfl (lkA q2008) (lkA q2010) (lkA qs41) rfl (lkA q82) mp_X3_ends (Nat.le_of_ble_eq_true rfl) (Nat.le_of_ble_eq_true rfl) (Nat.le_of_ble_eq_true rfl) (kr_e ?_) kx_e
  exact r_ireturn dX3_go_14 rfl (by first | rfl | exact bi_nar) (pub_end codes_oGoes)

theorem codes_oRenews {w : Nat → Int32} {x : Int32} : codes (oRenews w x) := by
  unfold oRenews gRenR
  repeat' split
  all_goals first | trivial | (show _ ≠ _; decide)
set_option maxHeartbeats 4000000 in
set_option maxRecDepth 100000 in
theorem sp_X3_soles {G : GG} {A : Nat → Nat} {S : Nat → Nat → Int32} {h : HP} (hi : inj 8 mdom A) {D : Int} (hI : Inv D (S 0)) {x : Int32} (u : Nat) (hu : (S 7 0).toInt = (u : Int)) (hu8 : u ≤ 8)  : Ct G 3 0 M_X3_soles [.ref (A 7), .int x] (ov (mdH A S) h) (mPubQ A S h (oRenews (S 0) x)) := by
  refine ct_intro my_X3_soles (Nat.le_of_ble_eq_true rfl) ?_
  first | refine r_aload_n dX3_soles_0 rfl ?_ | refine r_aload_nq dX3_soles_0 rfl ?_ | refine r_aload_nN dX3_soles_0 rfl ?_
  refine r_invV dX3_soles_1 (sp_X3_tries hi) rfl mo_X3_tries (Or.inl (m_o hi)) rfl (lkA q1943) (lkA q1945) (lkA qs30) rfl (lkA q82) mp_X3_tries (Nat.le_of_ble_eq_true rfl) (Nat.le_of_ble_eq_true rfl) (Nat.le_of_ble_eq_true rfl) (kr_e ?_) kx_e
  first | refine r_aload_n dX3_soles_4 rfl ?_ | refine r_aload_nq dX3_soles_4 rfl ?_ | refine r_aload_nN dX3_soles_4 rfl ?_
  first | refine r_aload_n dX3_soles_5 rfl ?_ | refine r_aload_nq dX3_soles_5 rfl ?_ | refine r_aload_nN dX3_soles_5 rfl ?_
  refine r_iload_n dX3_soles_6 rfl ?_
  refine r_invV dX3_soles_7 (sp_X3_renews (S := sa S 1 (cpN 413 (S 0) (S 1))) hi hI) rfl mo_X3_renews (Or.inl (m_o hi)) rfl (lkA q2048) (lkA q2050) (lkA qs45) rfl (lkA q82) mp_X3_renews (Nat.le_of_ble_eq_true rfl) (Nat.le_of_ble_eq_true rfl) (Nat.le_of_ble_eq_true rfl) (kr_e ?_) kx_e
  refine r_invV dX3_soles_10 (sp_X3_ends hi u (by rw [mres_70]; exact hu) hu8) rfl mo_X3_ends (Or.inl (m_o hi)) rfl (lkA q2008) (lkA q2010) (lkA qs41) rfl (lkA q82) mp_X3_ends (Nat.le_of_ble_eq_true rfl) (Nat.le_of_ble_eq_true rfl) (Nat.le_of_ble_eq_true rfl) (kr_e ?_) kx_e
  exact r_ireturn dX3_soles_13 rfl (by first | rfl | exact bi_nar) (pub_end codes_oRenews)

theorem codes_oPets {w : Nat → Int32} {x : Int32} : codes (oPets w x) := by
  unfold oPets gPetR
  repeat' split
  all_goals first | trivial | (show _ ≠ _; decide)
set_option maxHeartbeats 4000000 in
set_option maxRecDepth 100000 in
theorem sp_X3_pet {G : GG} {A : Nat → Nat} {S : Nat → Nat → Int32} {h : HP} (hi : inj 8 mdom A) {D : Int} (hI : Inv D (S 0)) {x : Int32} (u : Nat) (hu : (S 7 0).toInt = (u : Int)) (hu8 : u ≤ 8)  : Ct G 3 0 M_X3_pet [.ref (A 7), .int x] (ov (mdH A S) h) (mPubQ A S h (oPets (S 0) x)) := by
  refine ct_intro my_X3_pet (Nat.le_of_ble_eq_true rfl) ?_
  first | refine r_aload_n dX3_pet_0 rfl ?_ | refine r_aload_nq dX3_pet_0 rfl ?_ | refine r_aload_nN dX3_pet_0 rfl ?_
  refine r_invV dX3_pet_1 (sp_X3_tries hi) rfl mo_X3_tries (Or.inl (m_o hi)) rfl (lkA q1943) (lkA q1945) (lkA qs30) rfl (lkA q82) mp_X3_tries (Nat.le_of_ble_eq_true rfl) (Nat.le_of_ble_eq_true rfl) (Nat.le_of_ble_eq_true rfl) (kr_e ?_) kx_e
  first | refine r_aload_n dX3_pet_4 rfl ?_ | refine r_aload_nq dX3_pet_4 rfl ?_ | refine r_aload_nN dX3_pet_4 rfl ?_
  first | refine r_aload_n dX3_pet_5 rfl ?_ | refine r_aload_nq dX3_pet_5 rfl ?_ | refine r_aload_nN dX3_pet_5 rfl ?_
  refine r_iload_n dX3_pet_6 rfl ?_
  refine r_invV dX3_pet_7 (sp_X3_pets (S := sa S 1 (cpN 413 (S 0) (S 1))) hi hI) rfl mo_X3_pets (Or.inl (m_o hi)) rfl (lkA q2056) (lkA q2058) (lkA qs46) rfl (lkA q82) mp_X3_pets (Nat.le_of_ble_eq_true rfl) (Nat.le_of_ble_eq_true rfl) (Nat.le_of_ble_eq_true rfl) (kr_e ?_) kx_e
  refine r_invV dX3_pet_10 (sp_X3_ends hi u (by rw [mres_70]; exact hu) hu8) rfl mo_X3_ends (Or.inl (m_o hi)) rfl (lkA q2008) (lkA q2010) (lkA qs41) rfl (lkA q82) mp_X3_ends (Nat.le_of_ble_eq_true rfl) (Nat.le_of_ble_eq_true rfl) (Nat.le_of_ble_eq_true rfl) (kr_e ?_) kx_e
  exact r_ireturn dX3_pet_13 rfl (by first | rfl | exact bi_nar) (pub_end codes_oPets)

theorem codes_oRings {w : Nat → Int32} {x y z : Int32} : codes (oRings w x y z) := by
  unfold oRings gRingR
  repeat' split
  all_goals first | trivial | (show _ ≠ _; decide)
set_option maxHeartbeats 4000000 in
set_option maxRecDepth 100000 in
theorem sp_X3_ring {G : GG} {A : Nat → Nat} {S : Nat → Nat → Int32} {h : HP} (hi : inj 8 mdom A) {D : Int} (hI : Inv D (S 0)) {x y z : Int32} (u : Nat) (hu : (S 7 0).toInt = (u : Int)) (hu8 : u ≤ 8)  : Ct G 5 0 M_X3_ring [.ref (A 7), .int x, .int y, .int z] (ov (mdH A S) h) (mPubQ A S h (oRings (S 0) x y z)) := by
  refine ct_intro my_X3_ring (Nat.le_of_ble_eq_true rfl) ?_
  first | refine r_aload_n dX3_ring_0 rfl ?_ | refine r_aload_nq dX3_ring_0 rfl ?_ | refine r_aload_nN dX3_ring_0 rfl ?_
  refine r_invV dX3_ring_1 (sp_X3_tries hi) rfl mo_X3_tries (Or.inl (m_o hi)) rfl (lkA q1943) (lkA q1945) (lkA qs30) rfl (lkA q82) mp_X3_tries (Nat.le_of_ble_eq_true rfl) (Nat.le_of_ble_eq_true rfl) (Nat.le_of_ble_eq_true rfl) (kr_e ?_) kx_e
  first | refine r_aload_n dX3_ring_4 rfl ?_ | refine r_aload_nq dX3_ring_4 rfl ?_ | refine r_aload_nN dX3_ring_4 rfl ?_
  first | refine r_aload_n dX3_ring_5 rfl ?_ | refine r_aload_nq dX3_ring_5 rfl ?_ | refine r_aload_nN dX3_ring_5 rfl ?_
  refine r_iload_n dX3_ring_6 rfl ?_
  refine r_iload_n dX3_ring_7 rfl ?_
  refine r_iload_n dX3_ring_8 rfl ?_
  refine r_invV dX3_ring_9 (sp_X3_rings (S := sa S 1 (cpN 413 (S 0) (S 1))) hi hI) rfl mo_X3_rings (Or.inl (m_o hi)) rfl (lkA q2091) (lkA q2093) (lkA qs49) rfl (lkA q82) mp_X3_rings (Nat.le_of_ble_eq_true rfl) (Nat.le_of_ble_eq_true rfl) (Nat.le_of_ble_eq_true rfl) (kr_e ?_) kx_e
  refine r_invV dX3_ring_12 (sp_X3_ends hi u (by rw [mres_70]; exact hu) hu8) rfl mo_X3_ends (Or.inl (m_o hi)) rfl (lkA q2008) (lkA q2010) (lkA qs41) rfl (lkA q82) mp_X3_ends (Nat.le_of_ble_eq_true rfl) (Nat.le_of_ble_eq_true rfl) (Nat.le_of_ble_eq_true rfl) (kr_e ?_) kx_e
  exact r_ireturn dX3_ring_15 rfl (by first | rfl | exact bi_nar) (pub_end codes_oRings)

theorem codes_oBack {w : Nat → Int32} {x : Int32} : codes (oBack w x) := by
  unfold oBack gBackR
  repeat' split
  all_goals first | trivial | (show _ ≠ _; decide)
set_option maxHeartbeats 4000000 in
set_option maxRecDepth 100000 in
theorem sp_X3_back {G : GG} {A : Nat → Nat} {S : Nat → Nat → Int32} {h : HP} (hi : inj 8 mdom A) {D : Int} (hI : Inv D (S 0)) {x : Int32} (u : Nat) (hu : (S 7 0).toInt = (u : Int)) (hu8 : u ≤ 8)  : Ct G 5 0 M_X3_back [.ref (A 7), .int x] (ov (mdH A S) h) (mPubQ A S h (oBack (S 0) x)) := by
  refine ct_intro my_X3_back (Nat.le_of_ble_eq_true rfl) ?_
  first | refine r_aload_n dX3_back_0 rfl ?_ | refine r_aload_nq dX3_back_0 rfl ?_ | refine r_aload_nN dX3_back_0 rfl ?_
  refine r_invV dX3_back_1 (sp_X3_tries hi) rfl mo_X3_tries (Or.inl (m_o hi)) rfl (lkA q1943) (lkA q1945) (lkA qs30) rfl (lkA q82) mp_X3_tries (Nat.le_of_ble_eq_true rfl) (Nat.le_of_ble_eq_true rfl) (Nat.le_of_ble_eq_true rfl) (kr_e ?_) kx_e
  first | refine r_aload_n dX3_back_4 rfl ?_ | refine r_aload_nq dX3_back_4 rfl ?_ | refine r_aload_nN dX3_back_4 rfl ?_
  first | refine r_aload_n dX3_back_5 rfl ?_ | refine r_aload_nq dX3_back_5 rfl ?_ | refine r_aload_nN dX3_back_5 rfl ?_
  refine r_iload_n dX3_back_6 rfl ?_
  refine r_invV dX3_back_7 (sp_X3_takesBack (S := sa S 1 (cpN 413 (S 0) (S 1))) hi hI) rfl mo_X3_takesBack (Or.inl (m_o hi)) rfl (lkA q2103) (lkA q2105) (lkA qs51) rfl (lkA q82) mp_X3_takesBack (Nat.le_of_ble_eq_true rfl) (Nat.le_of_ble_eq_true rfl) (Nat.le_of_ble_eq_true rfl) (kr_e ?_) kx_e
  refine r_invV dX3_back_10 (sp_X3_ends hi u (by rw [mres_70]; exact hu) hu8) rfl mo_X3_ends (Or.inl (m_o hi)) rfl (lkA q2008) (lkA q2010) (lkA qs41) rfl (lkA q82) mp_X3_ends (Nat.le_of_ble_eq_true rfl) (Nat.le_of_ble_eq_true rfl) (Nat.le_of_ble_eq_true rfl) (kr_e ?_) kx_e
  exact r_ireturn dX3_back_13 rfl (by first | rfl | exact bi_nar) (pub_end codes_oBack)

theorem codes_oDay {w : Nat → Int32}  : codes (oDay w) := by
  unfold oDay
  repeat' split
  all_goals first | trivial | (show _ ≠ _; decide)
set_option maxHeartbeats 4000000 in
set_option maxRecDepth 100000 in
theorem sp_X3_day {G : GG} {A : Nat → Nat} {S : Nat → Nat → Int32} {h : HP} (hi : inj 8 mdom A)  (u : Nat) (hu : (S 7 0).toInt = (u : Int)) (hu8 : u ≤ 8)  : Ct G 3 0 M_X3_day [.ref (A 7)] (ov (mdH A S) h) (mPubQ A S h (oDay (S 0))) := by
  refine ct_intro my_X3_day (Nat.le_of_ble_eq_true rfl) ?_
  first | refine r_aload_n dX3_day_0 rfl ?_ | refine r_aload_nq dX3_day_0 rfl ?_ | refine r_aload_nN dX3_day_0 rfl ?_
  refine r_invV dX3_day_1 (sp_X3_tries hi) rfl mo_X3_tries (Or.inl (m_o hi)) rfl (lkA q1943) (lkA q1945) (lkA qs30) rfl (lkA q82) mp_X3_tries (Nat.le_of_ble_eq_true rfl) (Nat.le_of_ble_eq_true rfl) (Nat.le_of_ble_eq_true rfl) (kr_e ?_) kx_e
  first | refine r_aload_n dX3_day_4 rfl ?_ | refine r_aload_nq dX3_day_4 rfl ?_ | refine r_aload_nN dX3_day_4 rfl ?_
  first | refine r_aload_n dX3_day_5 rfl ?_ | refine r_aload_nq dX3_day_5 rfl ?_ | refine r_aload_nN dX3_day_5 rfl ?_
  refine r_invV dX3_day_6 (sp_X3_passes hi) rfl mo_X3_passes (Or.inl (m_o hi)) rfl (lkA q2115) (lkA q2117) (lkA qs52) rfl (lkA q82) mp_X3_passes (Nat.le_of_ble_eq_true rfl) (Nat.le_of_ble_eq_true rfl) (Nat.le_of_ble_eq_true rfl) (kr_e ?_) kx_e
  refine r_invV dX3_day_9 (sp_X3_ends hi u (by rw [mres_70]; exact hu) hu8) rfl mo_X3_ends (Or.inl (m_o hi)) rfl (lkA q2008) (lkA q2010) (lkA qs41) rfl (lkA q82) mp_X3_ends (Nat.le_of_ble_eq_true rfl) (Nat.le_of_ble_eq_true rfl) (Nat.le_of_ble_eq_true rfl) (kr_e ?_) kx_e
  exact r_ireturn dX3_day_12 rfl (by first | rfl | exact bi_nar) (pub_end codes_oDay)

def oSellerOf (w : Nat → Int32) (s k : Int32) : Int32 := if isS w s = true then (if isn k 0 8 = true then gSl w (tn s) (tn k) else -12) else -11
def oDepot (w : Nat → Int32) (b : Int32) : Int32 := if isB b = true then w (14 + tn b) else -11
def oSaleOf (w : Nat → Int32) (i k : Int32) : Int32 := if isL w i = true then (if isn k 0 6 = true then gSa w (tn i) (tn k) else -12) else -11
theorem isn_of {x : Int32} {m : Int32} (n : Nat) (hm : m.toInt = (n : Int)) (hc : ¬ bi (isn x 0 m) = 0) : isn x 0 m = true ∧ x.toInt = (tn x : Int) ∧ tn x ≤ n := by
  have h0 := bi_n0.mp hc
  obtain ⟨h1, h2⟩ := isn_t.mp h0
  simp only [Int32.reduceToInt] at h1
  refine ⟨h0, ?_, ?_⟩ <;> unfold tn <;> omega
set_option maxHeartbeats 4000000 in
set_option maxRecDepth 100000 in
theorem sp_X3_sellerOf {G : GG} {A : Nat → Nat} {S : Nat → Nat → Int32} {h : HP} (hi : inj 8 mdom A) {D : Int} (hI : Inv D (S 0)) {x y : Int32} : Ct G 2 0 M_X3_sellerOf [.ref (A 7), .int x, .int y] (ov (mdH A S) h) (eQ (some (.int (oSellerOf (S 0) x y))) (ov (mdH A S) h)) := by
  refine ct_intro my_X3_sellerOf (Nat.le_of_ble_eq_true rfl) ?_
  first | refine r_aload_n dX3_sellerOf_0 rfl ?_ | refine r_aload_nq dX3_sellerOf_0 rfl ?_ | refine r_aload_nN dX3_sellerOf_0 rfl ?_
  refine r_iload_n dX3_sellerOf_1 rfl ?_
  refine r_invV dX3_sellerOf_2 (sp_X3_isSeller hi) rfl mo_X3_isSeller (Or.inl (m_o hi)) rfl (lkA q1992) (lkA q1994) (lkA qs37) rfl (lkA q82) mp_X3_isSeller (Nat.le_of_ble_eq_true rfl) (Nat.le_of_ble_eq_true rfl) (Nat.le_of_ble_eq_true rfl) (kr_e ?_) kx_e
  refine r_if_ne 11 dX3_sellerOf_5 rfl (fun c5 => ?_) (fun c5 => ?_)
  · have hS := isS_of hI c5
    refine r_iload_n dX3_sellerOf_11 rfl ?_
    refine r_iconst (v := 0) dX3_sellerOf_12 rfl ?_
    refine r_bipush (v := 8) dX3_sellerOf_13 rfl ?_
    refine r_invS dX3_sellerOf_15 (sp_X3_in ) rfl mo_X3_in (lkA q1947) (lkA q1948) (lkA q82) mp_X3_in (Nat.le_of_ble_eq_true rfl) (Nat.le_of_ble_eq_true rfl) (Nat.le_of_ble_eq_true rfl) (kr_e ?_) kx_e
    refine r_if_eq 30 dX3_sellerOf_18 rfl (fun c18 => ?_) (fun c18 => ?_)
    · refine r_bipush (v := (-12)) dX3_sellerOf_30 rfl ?_
      exact r_ireturn dX3_sellerOf_32 rfl (by first | rfl | exact bi_nar) (by refine ⟨?_, rfl⟩; (try simp only [bi_0, Bool.not_eq_false, s10, ss0, ← Int32.not_lt, Classical.not_not] at c5); (try simp only [bi_0, Bool.not_eq_false, s10, ss0, ← Int32.not_lt, Classical.not_not] at c18); simp only [oSellerOf, ← Int32.not_lt, c5, c18, if_true, if_false, eq_self, Bool.false_eq_true, not_true_eq_false, not_false_eq_true, true_and, and_true, false_and, and_false, decide_true, decide_false, Bool.not_true, Bool.not_false, Bool.true_and, Bool.false_and]; try rfl)
    · first | refine r_aload_n dX3_sellerOf_21 rfl ?_ | refine r_aload_nq dX3_sellerOf_21 rfl ?_ | refine r_aload_nN dX3_sellerOf_21 rfl ?_
      refine r_iload_n dX3_sellerOf_22 rfl ?_
      refine r_iload_n dX3_sellerOf_23 rfl ?_
      refine r_invV dX3_sellerOf_24 (sp_X3_of hi (tn x) (tn y) hS.2.1 (isn_of 8 rfl c18).2.1 (by have := (isn_of 8 rfl c18).2.2; have := hS.2.2.1; omega)) rfl mo_X3_of (Or.inl (m_o hi)) rfl (lkA q1996) (lkA q1998) (lkA qs38) rfl (lkA q82) mp_X3_of (Nat.le_of_ble_eq_true rfl) (Nat.le_of_ble_eq_true rfl) (Nat.le_of_ble_eq_true rfl) (kr_e ?_) kx_e
      refine r_goto 32 dX3_sellerOf_27 rfl ?_
      exact r_ireturn dX3_sellerOf_32 rfl (by first | rfl | exact bi_nar) (by refine ⟨?_, rfl⟩; (try simp only [bi_0, Bool.not_eq_false, s10, ss0, ← Int32.not_lt, Classical.not_not] at c5); (try simp only [bi_0, Bool.not_eq_false, s10, ss0, ← Int32.not_lt, Classical.not_not] at c18); simp only [oSellerOf, ← Int32.not_lt, c5, c18, if_true, if_false, eq_self, Bool.false_eq_true, not_true_eq_false, not_false_eq_true, true_and, and_true, false_and, and_false, decide_true, decide_false, Bool.not_true, Bool.not_false, Bool.true_and, Bool.false_and]; try rfl)
  · refine r_bipush (v := (-11)) dX3_sellerOf_8 rfl ?_
    exact r_ireturn dX3_sellerOf_10 rfl (by first | rfl | exact bi_nar) (by refine ⟨?_, rfl⟩; (try simp only [bi_0, Bool.not_eq_false, s10, ss0, ← Int32.not_lt, Classical.not_not] at c5); simp only [oSellerOf, ← Int32.not_lt, c5, if_true, if_false, eq_self, Bool.false_eq_true, not_true_eq_false, not_false_eq_true, true_and, and_true, false_and, and_false, decide_true, decide_false, Bool.not_true, Bool.not_false, Bool.true_and, Bool.false_and]; try rfl)

set_option maxHeartbeats 4000000 in
set_option maxRecDepth 100000 in
theorem sp_X3_depot {G : GG} {A : Nat → Nat} {S : Nat → Nat → Int32} {h : HP} (hi : inj 8 mdom A) {D : Int} (hI : Inv D (S 0)) {x : Int32} : Ct G 2 0 M_X3_depot [.ref (A 7), .int x] (ov (mdH A S) h) (eQ (some (.int (oDepot (S 0) x))) (ov (mdH A S) h)) := by
  refine ct_intro my_X3_depot (Nat.le_of_ble_eq_true rfl) ?_
  refine r_iload_n dX3_depot_0 rfl ?_
  refine r_invS dX3_depot_1 (sp_X3_isBristle ) rfl mo_X3_isBristle (lkA q1977) (lkA q1978) (lkA q82) mp_X3_isBristle (Nat.le_of_ble_eq_true rfl) (Nat.le_of_ble_eq_true rfl) (Nat.le_of_ble_eq_true rfl) (kr_e ?_) kx_e
  refine r_if_eq 19 dX3_depot_4 rfl (fun c4 => ?_) (fun c4 => ?_)
  · refine r_bipush (v := (-11)) dX3_depot_19 rfl ?_
    exact r_ireturn dX3_depot_21 rfl (by first | rfl | exact bi_nar) (by refine ⟨?_, rfl⟩; (try simp only [bi_0, Bool.not_eq_false, s10, ss0, ← Int32.not_lt, Classical.not_not] at c4); simp only [oDepot, ← Int32.not_lt, c4, if_true, if_false, eq_self, Bool.false_eq_true, not_true_eq_false, not_false_eq_true, true_and, and_true, false_and, and_false, decide_true, decide_false, Bool.not_true, Bool.not_false, Bool.true_and, Bool.false_and]; try rfl)
  · first | refine r_aload_n dX3_depot_7 rfl ?_ | refine r_aload_nq dX3_depot_7 rfl ?_ | refine r_aload_nN dX3_depot_7 rfl ?_
    refine r_getfield 3 0 dX3_depot_8 rfl (Nat.le_of_ble_eq_true rfl) (lkA q1890) (Or.inl rfl) (Or.inl (m_o hi)) (by rfl) ?_
    refine r_bipush (v := 14) dX3_depot_11 rfl ?_
    refine r_iload_n dX3_depot_13 rfl ?_
    refine r_iadd dX3_depot_14 ?_
    refine r_iaload (14 + tn x) dX3_depot_15 (by first | exact Or.inl (m_a0 hi) | exact Or.inl (m_a1 hi) | exact Or.inl (m_a2 hi) | exact Or.inl (m_a3 hi) | exact Or.inl (m_a4 hi) | exact Or.inl (m_a5 hi) | exact Or.inl (m_a6 hi)) (by have := (isB_of c4).2.1; have := (isB_of c4).2.2; simp only [tI_add, tI_sub, tI_mul, tI_neg, Int32.reduceToInt]; omega) (by have := (isB_of c4).2.2; omega) rfl ?_
    refine r_goto 21 dX3_depot_16 rfl ?_
    exact r_ireturn dX3_depot_21 rfl (by first | rfl | exact bi_nar) (by refine ⟨?_, rfl⟩; (try simp only [bi_0, Bool.not_eq_false, s10, ss0, ← Int32.not_lt, Classical.not_not] at c4); simp only [oDepot, ← Int32.not_lt, c4, if_true, if_false, eq_self, Bool.false_eq_true, not_true_eq_false, not_false_eq_true, true_and, and_true, false_and, and_false, decide_true, decide_false, Bool.not_true, Bool.not_false, Bool.true_and, Bool.false_and]; try rfl)

set_option maxHeartbeats 4000000 in
set_option maxRecDepth 100000 in
theorem sp_X3_saleOf {G : GG} {A : Nat → Nat} {S : Nat → Nat → Int32} {h : HP} (hi : inj 8 mdom A) {D : Int} (hI : Inv D (S 0)) {x y : Int32} : Ct G 2 0 M_X3_saleOf [.ref (A 7), .int x, .int y] (ov (mdH A S) h) (eQ (some (.int (oSaleOf (S 0) x y))) (ov (mdH A S) h)) := by
  refine ct_intro my_X3_saleOf (Nat.le_of_ble_eq_true rfl) ?_
  refine r_iload_n dX3_saleOf_0 rfl ?_
  refine r_iconst (v := 0) dX3_saleOf_1 rfl ?_
  first | refine r_aload_n dX3_saleOf_2 rfl ?_ | refine r_aload_nq dX3_saleOf_2 rfl ?_ | refine r_aload_nN dX3_saleOf_2 rfl ?_
  refine r_getfield 3 0 dX3_saleOf_3 rfl (Nat.le_of_ble_eq_true rfl) (lkA q1890) (Or.inl rfl) (Or.inl (m_o hi)) (by rfl) ?_
  refine r_iconst (v := 3) dX3_saleOf_6 rfl ?_
  refine r_iaload (3) dX3_saleOf_7 (by first | exact Or.inl (m_a0 hi) | exact Or.inl (m_a1 hi) | exact Or.inl (m_a2 hi) | exact Or.inl (m_a3 hi) | exact Or.inl (m_a4 hi) | exact Or.inl (m_a5 hi) | exact Or.inl (m_a6 hi)) rfl (Nat.le_of_ble_eq_true rfl) rfl ?_
  refine r_iconst (v := 1) dX3_saleOf_8 rfl ?_
  refine r_isub dX3_saleOf_9 ?_
  refine r_invS dX3_saleOf_10 (sp_X3_in ) rfl mo_X3_in (lkA q1947) (lkA q1948) (lkA q82) mp_X3_in (Nat.le_of_ble_eq_true rfl) (Nat.le_of_ble_eq_true rfl) (Nat.le_of_ble_eq_true rfl) (kr_e ?_) kx_e
  refine r_if_ne 19 dX3_saleOf_13 rfl (fun c13 => ?_) (fun c13 => ?_)
  · refine r_iload_n dX3_saleOf_19 rfl ?_
    refine r_iconst (v := 0) dX3_saleOf_20 rfl ?_
    refine r_bipush (v := 6) dX3_saleOf_21 rfl ?_
    refine r_invS dX3_saleOf_23 (sp_X3_in ) rfl mo_X3_in (lkA q1947) (lkA q1948) (lkA q82) mp_X3_in (Nat.le_of_ble_eq_true rfl) (Nat.le_of_ble_eq_true rfl) (Nat.le_of_ble_eq_true rfl) (kr_e ?_) kx_e
    refine r_if_eq 47 dX3_saleOf_26 rfl (fun c26 => ?_) (fun c26 => ?_)
    · refine r_bipush (v := (-12)) dX3_saleOf_47 rfl ?_
      exact r_ireturn dX3_saleOf_49 rfl (by first | rfl | exact bi_nar) (by refine ⟨?_, rfl⟩; (try simp only [bi_0, Bool.not_eq_false, s10, ss0, ← Int32.not_lt, Classical.not_not] at c13); (try simp only [bi_0, Bool.not_eq_false, s10, ss0, ← Int32.not_lt, Classical.not_not] at c26); simp only [oSaleOf, isL, gSa, ← Int32.not_lt, c13, c26, if_true, if_false, eq_self, Bool.false_eq_true, not_true_eq_false, not_false_eq_true, true_and, and_true, false_and, and_false, decide_true, decide_false, Bool.not_true, Bool.not_false, Bool.true_and, Bool.false_and]; try rfl)
    · first | refine r_aload_n dX3_saleOf_29 rfl ?_ | refine r_aload_nq dX3_saleOf_29 rfl ?_ | refine r_aload_nN dX3_saleOf_29 rfl ?_
      refine r_getfield 3 0 dX3_saleOf_30 rfl (Nat.le_of_ble_eq_true rfl) (lkA q1890) (Or.inl rfl) (Or.inl (m_o hi)) (by rfl) ?_
      refine r_sipush (v := 133) dX3_saleOf_33 rfl ?_
      refine r_bipush (v := 7) dX3_saleOf_36 rfl ?_
      refine r_iload_n dX3_saleOf_38 rfl ?_
      refine r_imul dX3_saleOf_39 ?_
      refine r_iadd dX3_saleOf_40 ?_
      refine r_iload_n dX3_saleOf_41 rfl ?_
      refine r_iadd dX3_saleOf_42 ?_
      refine r_iaload (133 + 7 * tn x + tn y) dX3_saleOf_43 (by first | exact Or.inl (m_a0 hi) | exact Or.inl (m_a1 hi) | exact Or.inl (m_a2 hi) | exact Or.inl (m_a3 hi) | exact Or.inl (m_a4 hi) | exact Or.inl (m_a5 hi) | exact Or.inl (m_a6 hi)) (by have := (isL_of hI c13).2.1; have := (isL_of hI c13).2.2.1; have := (isn_of 6 rfl c26).2; simp only [tI_add, tI_sub, tI_mul, tI_neg, Int32.reduceToInt]; omega) (by have := (isL_of hI c13).2.2.1; have := (isn_of 6 rfl c26).2; omega) rfl ?_
      refine r_goto 49 dX3_saleOf_44 rfl ?_
      exact r_ireturn dX3_saleOf_49 rfl (by first | rfl | exact bi_nar) (by refine ⟨?_, rfl⟩; (try simp only [bi_0, Bool.not_eq_false, s10, ss0, ← Int32.not_lt, Classical.not_not] at c13); (try simp only [bi_0, Bool.not_eq_false, s10, ss0, ← Int32.not_lt, Classical.not_not] at c26); simp only [oSaleOf, isL, gSa, ← Int32.not_lt, c13, c26, if_true, if_false, eq_self, Bool.false_eq_true, not_true_eq_false, not_false_eq_true, true_and, and_true, false_and, and_false, decide_true, decide_false, Bool.not_true, Bool.not_false, Bool.true_and, Bool.false_and]; try rfl)
  · refine r_bipush (v := (-11)) dX3_saleOf_16 rfl ?_
    exact r_ireturn dX3_saleOf_18 rfl (by first | rfl | exact bi_nar) (by refine ⟨?_, rfl⟩; (try simp only [bi_0, Bool.not_eq_false, s10, ss0, ← Int32.not_lt, Classical.not_not] at c13); simp only [oSaleOf, isL, ← Int32.not_lt, c13, if_true, if_false, eq_self, Bool.false_eq_true, not_true_eq_false, not_false_eq_true, true_and, and_true, false_and, and_false, decide_true, decide_false, Bool.not_true, Bool.not_false, Bool.true_and, Bool.false_and]; try rfl)

set_option maxHeartbeats 4000000 in
set_option maxRecDepth 100000 in
theorem sp_X3_inDepot {G : GG} {A : Nat → Nat} {S : Nat → Nat → Int32} {h : HP} (hi : inj 8 mdom A)  : Ct G 0 0 M_X3_inDepot [.ref (A 7)] (ov (mdH A S) h) (eQ (some (.int (S 0 14 + S 0 15 + S 0 16))) (ov (mdH A S) h)) := by
  refine ct_intro my_X3_inDepot (Nat.le_of_ble_eq_true rfl) ?_
  first | refine r_aload_n dX3_inDepot_0 rfl ?_ | refine r_aload_nq dX3_inDepot_0 rfl ?_ | refine r_aload_nN dX3_inDepot_0 rfl ?_
  refine r_getfield 3 0 dX3_inDepot_1 rfl (Nat.le_of_ble_eq_true rfl) (lkA q1890) (Or.inl rfl) (Or.inl (m_o hi)) (by rfl) ?_
  refine r_bipush (v := 14) dX3_inDepot_4 rfl ?_
  refine r_iaload (14) dX3_inDepot_6 (by first | exact Or.inl (m_a0 hi) | exact Or.inl (m_a1 hi) | exact Or.inl (m_a2 hi) | exact Or.inl (m_a3 hi) | exact Or.inl (m_a4 hi) | exact Or.inl (m_a5 hi) | exact Or.inl (m_a6 hi)) rfl (Nat.le_of_ble_eq_true rfl) rfl ?_
  first | refine r_aload_n dX3_inDepot_7 rfl ?_ | refine r_aload_nq dX3_inDepot_7 rfl ?_ | refine r_aload_nN dX3_inDepot_7 rfl ?_
  refine r_getfield 3 0 dX3_inDepot_8 rfl (Nat.le_of_ble_eq_true rfl) (lkA q1890) (Or.inl rfl) (Or.inl (m_o hi)) (by rfl) ?_
  refine r_bipush (v := 15) dX3_inDepot_11 rfl ?_
  refine r_iaload (15) dX3_inDepot_13 (by first | exact Or.inl (m_a0 hi) | exact Or.inl (m_a1 hi) | exact Or.inl (m_a2 hi) | exact Or.inl (m_a3 hi) | exact Or.inl (m_a4 hi) | exact Or.inl (m_a5 hi) | exact Or.inl (m_a6 hi)) rfl (Nat.le_of_ble_eq_true rfl) rfl ?_
  refine r_iadd dX3_inDepot_14 ?_
  first | refine r_aload_n dX3_inDepot_15 rfl ?_ | refine r_aload_nq dX3_inDepot_15 rfl ?_ | refine r_aload_nN dX3_inDepot_15 rfl ?_
  refine r_getfield 3 0 dX3_inDepot_16 rfl (Nat.le_of_ble_eq_true rfl) (lkA q1890) (Or.inl rfl) (Or.inl (m_o hi)) (by rfl) ?_
  refine r_bipush (v := 16) dX3_inDepot_19 rfl ?_
  refine r_iaload (16) dX3_inDepot_21 (by first | exact Or.inl (m_a0 hi) | exact Or.inl (m_a1 hi) | exact Or.inl (m_a2 hi) | exact Or.inl (m_a3 hi) | exact Or.inl (m_a4 hi) | exact Or.inl (m_a5 hi) | exact Or.inl (m_a6 hi)) rfl (Nat.le_of_ble_eq_true rfl) rfl ?_
  refine r_iadd dX3_inDepot_22 ?_
  exact r_ireturn dX3_inDepot_23 rfl (by first | rfl | exact bi_nar) (by first | exact ⟨rfl, rfl⟩ | rfl)

