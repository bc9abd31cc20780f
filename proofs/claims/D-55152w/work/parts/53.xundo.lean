set_option maxRecDepth 100000
theorem CS_hu {aS : Nat → Nat → Nat} {wS : Nat → Nat → Int32} {u : Nat} {sv : Bool} {h : HP} {q : Nat} {b c : Bd} (hC : CS aS wS u sv h) (hq : h q = some b) (hk : ¬ kin (kd b)) : CS aS wS u sv (hu h q c) := ⟨fun s hs => ⟨St_hu (hC.1 s hs).1 (cF_kd (hC.1 s hs).1 hq hk), (hC.1 s hs).2⟩, hC.2⟩
/-- the companies told in another order -/
theorem CS_slot {aS : Nat → Nat → Nat} {wS : Nat → Nat → Int32} {u u' : Nat} {sv : Bool} {h : HP} (g : Nat → Nat) (hC : CS aS wS u sv h) (hg : ∀ s, lvS u' sv s → lvS u sv (g s)) (gi : ∀ s t, lvS u' sv s → lvS u' sv t → s ≠ t → g s ≠ g t) : CS (fun s => aS (g s)) (fun s => wS (g s)) u' sv h := ⟨fun s hs => hC.1 _ (hg s hs), fun s t hst hs ht q => hC.2 _ _ (gi s t hs ht hst) (hg s hs) (hg t ht) q⟩
def upS {α : Type} (f : Nat → α) (p : Nat) (v : α) : Nat → α := fun s => if s = p then v else f s
theorem upS_s {α : Type} {f : Nat → α} {p : Nat} {v : α} : upS f p v p = v := if_pos rfl
theorem upS_n {α : Type} {f : Nat → α} {p s : Nat} {v : α} (h : s ≠ p) : upS f p v s = f s := if_neg h
/-- a new company at the place p -/
theorem CS_new {aS : Nat → Nat → Nat} {wS : Nat → Nat → Int32} {u u' : Nat} {sv sv' : Bool} {h H : HP} {p : Nat} {ad2 : Nat → Nat} {w2 : Nat → Int32} (hC : CS aS wS u sv h) (hx : Ext h H) (i2 : cI ad2 w2) (f2 : ∀ k, k < 160 → cdom w2 k = true → h (ad2 k) = none) (s2 : St H ad2 w2) (hl : ∀ s, lvS u' sv' s → s ≠ p → lvS u sv s) : CS (upS aS p ad2) (upS wS p w2) u' sv' H := by
  have c2 : ∀ q b, h q = some b → cF ad2 w2 q = none := fun q b hb => fam_none fun k hk hd3 e => by
    rw [← e, f2 k hk hd3] at hb
    cases hb
  have old : ∀ s, lvS u sv s → ∀ q, cF (aS s) (wS s) q = none ∨ cF ad2 w2 q = none := fun s hs q => by
    cases e : cF (aS s) (wS s) q with
    | none => exact Or.inl rfl
    | some b => exact Or.inr (c2 q b (St_in (hC.1 s hs).1 e))
  refine ⟨fun s hs => ?_, fun s t hst hs ht q => ?_⟩
  · by_cases e : s = p
    · rw [e, upS_s, upS_s]
      exact ⟨s2, i2⟩
    · rw [upS_n e, upS_n e]
      exact ⟨St_ext (hC.1 s (hl s hs e)).1 hx, (hC.1 s (hl s hs e)).2⟩
  · by_cases e : s = p
    · have e2 : t ≠ p := fun e2 => hst (e.trans e2.symm)
      rw [e, upS_s, upS_s, upS_n e2, upS_n e2]
      exact (old t (hl t ht e2) q).symm
    · rw [upS_n e, upS_n e]
      by_cases e2 : t = p
      · rw [e2, upS_s, upS_s]
        exact old s (hl s hs e) q
      · rw [upS_n e2, upS_n e2]
        exact hC.2 s t hst (hl s hs e) (hl t ht e2) q
/-- what undo leaves -/
def unS {α : Type} (f : Nat → α) (u : Nat) : Nat → α := fun s => if s = 0 then f u else f s
def unQ (X D R hd u : Nat) (aS : Nat → Nat → Nat) (wS : Nat → Nat → Int32) (sv : Bool) (rs dt : Int32) (tx la : Nat) (h : HP) : Oc → HP → Prop := rQ (fun v h' => (u = 0 ∧ v = some (.int (-15)) ∧ h' = h) ∨ (0 < u ∧ v = some (.int (nI (u - 1))) ∧ CO X D R hd (u - 1) (unS aS u) sv rs dt tx la h' ∧ CS (unS aS u) (unS wS u) (u - 1) sv h' ∧ FR X D R aS wS u sv h (unS aS u) (unS wS u) (u - 1) sv h'))
theorem op_U {X D R hd n : Nat} {aS : Nat → Nat → Nat} {wS : Nat → Nat → Int32} {sv : Bool} {rs dt : Int32} {tx la : Nat} {h : HP} (hO : CO X D R hd (n + 1) aS sv rs dt tx la h) (hC : CS aS wS (n + 1) sv h) : CO X D R hd n (unS aS (n + 1)) sv rs dt tx la (hu (hu (hu h R (bDr hd n (fun i => aS (1 + i) 0))) D (bDq R hd n)) X (bO 0 [.ref (aS (1 + n) 0), svV aS sv, .ref D, .int rs, .int dt, .ref tx, .ref la])) ∧ CS (unS aS (n + 1)) (unS wS (n + 1)) n sv (hu (hu (hu h R (bDr hd n (fun i => aS (1 + i) 0))) D (bDq R hd n)) X (bO 0 [.ref (aS (1 + n) 0), svV aS sv, .ref D, .int rs, .int dt, .ref tx, .ref la])) ∧ FR X D R aS wS (n + 1) sv h (unS aS (n + 1)) (unS wS (n + 1)) n sv (hu (hu (hu h R (bDr hd n (fun i => aS (1 + i) 0))) D (bDq R hd n)) X (bO 0 [.ref (aS (1 + n) 0), svV aS sv, .ref D, .int rs, .int dt, .ref tx, .ref la])) := by
  obtain ⟨hX, hD, hR, hh, hu9⟩ := hO
  have eXD : X ≠ D := kd_ne hX hD (show 0 ≠ 13 by decide)
  have eXR : X ≠ R := kd_ne hX hR (show 0 ≠ 1017 by decide)
  have eRD : R ≠ D := kd_ne hR hD (show 1017 ≠ 13 by decide)
  have hg : ∀ s, lvS n sv s → lvS (n + 1) sv (if s = 0 then n + 1 else s) := fun s hs => by
    by_cases e : s = 0
    · rw [if_pos e]; exact Or.inr (Or.inl ⟨by omega, by omega⟩)
    · rw [if_neg e]
      rcases hs with h1 | h1 | h1
      · exact absurd h1 e
      · exact Or.inr (Or.inl ⟨by omega, by omega⟩)
      · exact Or.inr (Or.inr h1)
  have key : CS (unS aS (n + 1)) (unS wS (n + 1)) n sv h := by
    have := CS_slot (u' := n) (fun s => if s = 0 then n + 1 else s) hC hg (fun s t hs ht hst => by
      show (if s = 0 then n + 1 else s) ≠ (if t = 0 then n + 1 else t)
      have a1 : s ≤ n ∨ s = 9 := by rcases hs with h | h | h <;> omega
      have a2 : t ≤ n ∨ t = 9 := by rcases ht with h | h | h <;> omega
      by_cases b1 : s = 0
      · rw [if_pos b1]
        by_cases b2 : t = 0
        · omega
        · rw [if_neg b2]; omega
      · rw [if_neg b1]
        by_cases b2 : t = 0
        · rw [if_pos b2]; omega
        · rw [if_neg b2]; exact hst)
    have e1 : (fun s => aS (if s = 0 then n + 1 else s)) = unS aS (n + 1) := by
      funext s
      unfold unS
      by_cases e : s = 0
      · rw [if_pos e, if_pos e]
      · rw [if_neg e, if_neg e]
    have e2 : (fun s => wS (if s = 0 then n + 1 else s)) = unS wS (n + 1) := by
      funext s
      unfold unS
      by_cases e : s = 0
      · rw [if_pos e, if_pos e]
      · rw [if_neg e, if_neg e]
    rw [e1, e2] at this
    exact this
  have u0 : unS aS (n + 1) 0 = aS (n + 1) := if_pos rfl
  have un : ∀ s, s ≠ 0 → unS aS (n + 1) s = aS s := fun s e => if_neg e
  refine ⟨⟨?_, ?_, ?_, hh, by omega⟩, ?_, fun q b qX qD qR hf hb => ⟨?_, fun s hs => ?_⟩⟩
  · rw [hu_s, bX, u0, Nat.add_comm 1 n]
    unfold svV
    rw [un 9 (by decide)]
  · rw [hu_n (Ne.symm eXD), hu_s]
  · rw [hu_n (Ne.symm eXR), hu_n eRD, hu_s]
    exact congrArg (fun f => some (bR 3 17 f)) (fDq_cg fun i hi => by rw [un _ (by omega)])
  · have k1 := CS_hu (c := bDr hd n (fun i => aS (1 + i) 0)) key hR kn1017
    have hD1 : hu h R (bDr hd n (fun i => aS (1 + i) 0)) D = some (bDq R hd (n + 1)) := (hu_n (Ne.symm eRD)).trans hD
    have k2 := CS_hu (c := bDq R hd n) k1 hD1 kn13
    exact CS_hu k2 ((hu_n eXD).trans ((hu_n eXR).trans hX)) kn0
  · rw [hu_n qX, hu_n qD, hu_n qR, hb]
  · have := hf _ (hg s hs)
    unfold unS
    by_cases e : s = 0
    · rw [if_pos e] at this
      rw [if_pos e, if_pos e]
      exact this
    · rw [if_neg e] at this
      rw [if_neg e, if_neg e]
      exact this
theorem op_Sv {X D R hd u : Nat} {aS : Nat → Nat → Nat} {wS : Nat → Nat → Int32} {sv : Bool} {rs dt : Int32} {tx la : Nat} {h H : HP} {ad2 : Nat → Nat} (hO : CO X D R hd u aS sv rs dt tx la h) (hC : CS aS wS u sv h) (hx : Ext h H) (i2 : cI ad2 (wS 0)) (f2 : ∀ k, k < 160 → cdom (wS 0) k = true → h (ad2 k) = none) (s2 : St H ad2 (wS 0)) : CO X D R hd u (upS aS 9 ad2) true rs dt tx la (hu H X (bO 0 [.ref (aS 0 0), .ref (ad2 0), .ref D, .int rs, .int dt, .ref tx, .ref la])) ∧ CS (upS aS 9 ad2) (upS wS 9 (wS 0)) u true (hu H X (bO 0 [.ref (aS 0 0), .ref (ad2 0), .ref D, .int rs, .int dt, .ref tx, .ref la])) ∧ FR X D R aS wS u sv h (upS aS 9 ad2) (upS wS 9 (wS 0)) u true (hu H X (bO 0 [.ref (aS 0 0), .ref (ad2 0), .ref D, .int rs, .int dt, .ref tx, .ref la])) := by
  have hu9 := hO.2.2.2.2
  have key := CS_new (u' := u) (sv' := true) (p := 9) hC hx i2 f2 s2 (fun s hs s9 => by
    rcases hs with h1 | h1 | h1
    · exact Or.inl h1
    · exact Or.inr (Or.inl h1)
    · exact absurd h1.1 s9)
  refine ⟨⟨?_, ?_, ?_, hO.2.2.2⟩, CS_hu key (hx _ _ hO.1) kn0, fun q b qX _ _ hf hb => ⟨?_, fun s hs => ?_⟩⟩
  · rw [hu_s, bX, upS_n (show 0 ≠ 9 by decide)]
    unfold svV
    rw [if_pos rfl, upS_s]
  · rw [hu_n (kd_ne hO.2.1 hO.1 (show 13 ≠ 0 by decide))]
    exact hx _ _ hO.2.1
  · rw [hu_n (kd_ne hO.2.2.1 hO.1 (show 1017 ≠ 0 by decide)), hx _ _ hO.2.2.1]
    exact congrArg (fun f => some (bR 3 17 f)) (fDq_cg fun i hi => by rw [upS_n (by omega)])
  · rw [hu_n qX]
    exact hx q b hb
  · by_cases e : s = 9
    · rw [e, upS_s, upS_s]
      exact fam_none fun k hk hd3 e => by
        rw [← e, f2 k hk hd3] at hb
        cases hb
    · rw [upS_n e, upS_n e]
      refine hf s ?_
      rcases hs with h1 | h1 | h1
      · exact Or.inl h1
      · exact Or.inr (Or.inl h1)
      · exact absurd h1.1 e
theorem op_Re {X D R hd u : Nat} {aS : Nat → Nat → Nat} {wS : Nat → Nat → Int32} {rs dt : Int32} {tx la : Nat} {h H : HP} {ad2 : Nat → Nat} (hO : CO X D R hd u aS true rs dt tx la h) (hC : CS aS wS u true h) (hx : Ext h H) (i2 : cI ad2 (wS 9)) (f2 : ∀ k, k < 160 → cdom (wS 9) k = true → h (ad2 k) = none) (s2 : St H ad2 (wS 9)) : CO X D R 0 0 (upS aS 0 ad2) true rs dt tx la (hu (hu (hu H X (bO 0 [.ref (ad2 0), .ref (aS 9 0), .ref D, .int rs, .int dt, .ref tx, .ref la])) R (bDr 0 0 (fun _ => 0))) D (bDq R 0 0)) ∧ CS (upS aS 0 ad2) (upS wS 0 (wS 9)) 0 true (hu (hu (hu H X (bO 0 [.ref (ad2 0), .ref (aS 9 0), .ref D, .int rs, .int dt, .ref tx, .ref la])) R (bDr 0 0 (fun _ => 0))) D (bDq R 0 0)) ∧ FR X D R aS wS u true h (upS aS 0 ad2) (upS wS 0 (wS 9)) 0 true (hu (hu (hu H X (bO 0 [.ref (ad2 0), .ref (aS 9 0), .ref D, .int rs, .int dt, .ref tx, .ref la])) R (bDr 0 0 (fun _ => 0))) D (bDq R 0 0)) := by
  obtain ⟨hX, hD, hR, hh, hu9⟩ := hO
  have eXD : X ≠ D := kd_ne hX hD (show 0 ≠ 13 by decide)
  have eXR : X ≠ R := kd_ne hX hR (show 0 ≠ 1017 by decide)
  have eRD : R ≠ D := kd_ne hR hD (show 1017 ≠ 13 by decide)
  have l9 : ∀ s, lvS 0 true s → s ≠ 0 → lvS u true s := fun s hs s0 => by
    rcases hs with h1 | h1 | h1
    · exact absurd h1 s0
    · omega
    · exact Or.inr (Or.inr h1)
  have key := CS_new (u' := 0) (sv' := true) (p := 0) hC hx i2 f2 s2 l9
  have k1 := CS_hu (c := bO 0 [.ref (ad2 0), .ref (aS 9 0), .ref D, .int rs, .int dt, .ref tx, .ref la]) key (hx _ _ hX) kn0
  have k2 := CS_hu (c := bDr 0 0 (fun _ => 0)) k1 ((hu_n (Ne.symm eXR)).trans (hx _ _ hR)) kn1017
  have k3 := CS_hu (c := bDq R 0 0) k2 ((hu_n (Ne.symm eRD)).trans ((hu_n (Ne.symm eXD)).trans (hx _ _ hD))) kn13
  refine ⟨⟨?_, hu_s, ?_, by decide, by omega⟩, k3, fun q b qX qD qR hf hb => ⟨?_, fun s hs => ?_⟩⟩
  · rw [hu_n eXD, hu_n eXR, hu_s, bX, upS_s]
    unfold svV
    rw [if_pos rfl, upS_n (by decide)]
  · rw [hu_n eRD, hu_s]
    exact congrArg (fun f => some (bR 3 17 f)) (fDq_cg fun i hi => absurd hi (Nat.not_lt_zero _))
  · rw [hu_n qD, hu_n qR, hu_n qX]
    exact hx q b hb
  · by_cases e : s = 0
    · rw [e, upS_s, upS_s]
      exact fam_none fun k hk hd3 e => by
        rw [← e, f2 k hk hd3] at hb
        cases hb
    · rw [upS_n e, upS_n e]
      exact hf s (l9 s hs e)
set_option maxHeartbeats 4000000 in
set_option maxRecDepth 100000 in
theorem undo_0 {G : GG} {h : HP} {X D R hd : Nat} {aS : Nat → Nat → Nat} {wS : Nat → Nat → Int32} {sv : Bool} {rs dt : Int32} {tx la : Nat} (hO : CO X D R hd 0 aS sv rs dt tx la h) : Ct G 4 0 M_X0_undo [.ref X] h (unQ X D R hd 0 aS wS sv rs dt tx la h) := by
  refine ct_intro my_X0_undo (Nat.le_of_ble_eq_true rfl) ?_
  obtain ⟨hX, hD, hR, hh, hu8⟩ := id hO
  have eXD : X ≠ D := kd_ne hX hD (show 0 ≠ 13 by decide)
  have eXR : X ≠ R := kd_ne hX hR (show 0 ≠ 1017 by decide)
  have eRD : R ≠ D := kd_ne hR hD (show 1017 ≠ 13 by decide)
  first | refine r_aload_n dX0_undo_0 rfl ?_ | refine r_aload_nq dX0_undo_0 rfl ?_ | refine r_aload_nN dX0_undo_0 rfl ?_
  refine r_getfield 0 2 dX0_undo_1 rfl (Nat.le_of_ble_eq_true rfl) (lkA q406) (Or.inl rfl) (Or.inl hX) (by rfl) ?_
  refine r_invV dX0_undo_4 (sp_J9_isEmpty (it := (fun i => aS (1 + i) 0)) hD hR hh (by omega)) rfl mo_J9_isEmpty (Or.inl hD) rfl (lkA q1854) (lkA q1855) (lkA q1856) rfl (lkA q77) mp_J9_isEmpty (Nat.le_of_ble_eq_true rfl) (Nat.le_of_ble_eq_true rfl) (Nat.le_of_ble_eq_true rfl) (kr_e ?_) kx_e
  refine r_if_eq 13 dX0_undo_7 rfl (fun c7 => absurd c7 (by rw [if_pos rfl]; decide)) (fun c7 => ?_)
  refine r_bipush (v := (-15)) dX0_undo_10 rfl ?_
  exact r_ireturn dX0_undo_12 rfl (by first | rfl | exact bi_nar) (Or.inl ⟨rfl, rfl, rfl⟩)

set_option maxHeartbeats 4000000 in
set_option maxRecDepth 100000 in
theorem undo_1 {G : GG} {h : HP} {X D R hd : Nat} {aS : Nat → Nat → Nat} {wS : Nat → Nat → Int32} {sv : Bool} {rs dt : Int32} {tx la : Nat} {n : Nat} (hO : CO X D R hd (n + 1) aS sv rs dt tx la h) (hC : CS aS wS (n + 1) sv h) : Ct G 4 0 M_X0_undo [.ref X] h (unQ X D R hd (n + 1) aS wS sv rs dt tx la h) := by
  refine ct_intro my_X0_undo (Nat.le_of_ble_eq_true rfl) ?_
  obtain ⟨hX, hD, hR, hh, hu8⟩ := id hO
  have eXD : X ≠ D := kd_ne hX hD (show 0 ≠ 13 by decide)
  have eXR : X ≠ R := kd_ne hX hR (show 0 ≠ 1017 by decide)
  have eRD : R ≠ D := kd_ne hR hD (show 1017 ≠ 13 by decide)
  have ls : lvS (n + 1) sv (1 + n) := Or.inr (Or.inl ⟨by omega, by omega⟩)
  have hc0 : h (aS (1 + n) 0) = some (cCo (aS (1 + n)) (wS (1 + n))) := s_0 (hC.1 _ ls).1
  have hcc : (hu (hu h R (bDr hd n (fun i => aS (1 + i) 0))) D (bDq R hd n)) (aS (1 + n) 0) = some (cCo (aS (1 + n)) (wS (1 + n))) := (hu_n (kd_ne hc0 hD (show 1 ≠ 13 by decide))).trans ((hu_n (kd_ne hc0 hR (show 1 ≠ 1017 by decide))).trans hc0)
  first | refine r_aload_n dX0_undo_0 rfl ?_ | refine r_aload_nq dX0_undo_0 rfl ?_ | refine r_aload_nN dX0_undo_0 rfl ?_
  refine r_getfield 0 2 dX0_undo_1 rfl (Nat.le_of_ble_eq_true rfl) (lkA q406) (Or.inl rfl) (Or.inl hX) (by rfl) ?_
  refine r_invV dX0_undo_4 (sp_J9_isEmpty (it := (fun i => aS (1 + i) 0)) hD hR hh (by omega)) rfl mo_J9_isEmpty (Or.inl hD) rfl (lkA q1854) (lkA q1855) (lkA q1856) rfl (lkA q77) mp_J9_isEmpty (Nat.le_of_ble_eq_true rfl) (Nat.le_of_ble_eq_true rfl) (Nat.le_of_ble_eq_true rfl) (kr_e ?_) kx_e
  refine r_if_eq 13 dX0_undo_7 rfl (fun c7 => ?_) (fun c7 => absurd c7 (by rw [if_neg (Nat.succ_ne_zero n)]; decide))
  first | refine r_aload_n dX0_undo_13 rfl ?_ | refine r_aload_nq dX0_undo_13 rfl ?_ | refine r_aload_nN dX0_undo_13 rfl ?_
  first | refine r_aload_n dX0_undo_14 rfl ?_ | refine r_aload_nq dX0_undo_14 rfl ?_ | refine r_aload_nN dX0_undo_14 rfl ?_
  refine r_getfield 0 2 dX0_undo_15 rfl (Nat.le_of_ble_eq_true rfl) (lkA q406) (Or.inl rfl) (Or.inl hX) (by rfl) ?_
  refine r_invV dX0_undo_18 (sp_J9_removeLast (n := n) (it := (fun i => aS (1 + i) 0)) hD hR hh (by omega)) rfl mo_J9_removeLast (Or.inl hD) rfl (lkA q1858) (lkA q1859) (lkA q1860) rfl (lkA q77) mp_J9_removeLast (Nat.le_of_ble_eq_true rfl) (Nat.le_of_ble_eq_true rfl) (Nat.le_of_ble_eq_true rfl) (kr_e ?_) kx_e
  refine r_castS dX0_undo_21 (Or.inl hcc) rfl (lkA q114) ?_
  refine r_put 0 0 dX0_undo_24 rfl (Nat.le_of_ble_eq_true rfl) (lkA q404) (Or.inl rfl) rfl ((hu_n eXD).trans ((hu_n eXR).trans hX)) (by dsimp only [List.set]) (Nat.le_of_ble_eq_true rfl) rfl rfl (by first | exact hu_hu | exact rfl) ?_
  first | refine r_aload_n dX0_undo_27 rfl ?_ | refine r_aload_nq dX0_undo_27 rfl ?_ | refine r_aload_nN dX0_undo_27 rfl ?_
  refine r_getfield 0 2 dX0_undo_28 rfl (Nat.le_of_ble_eq_true rfl) (lkA q406) (Or.inl rfl) (Or.inl hu_s) (by rfl) ?_
  refine r_invV dX0_undo_31 (sp_J9_size (n := n) (it := (fun i => aS (1 + i) 0)) ((hu_n (Ne.symm eXD)).trans hu_s) ((hu_n (Ne.symm eXR)).trans ((hu_n eRD).trans hu_s)) hh (by omega)) rfl mo_J9_size (Or.inl ((hu_n (Ne.symm eXD)).trans hu_s)) rfl (lkA q1105) (lkA q1106) (lkA q1107) rfl (lkA q77) mp_J9_size (Nat.le_of_ble_eq_true rfl) (Nat.le_of_ble_eq_true rfl) (Nat.le_of_ble_eq_true rfl) (kr_e ?_) kx_e
  exact r_ireturn dX0_undo_34 rfl (by first | rfl | exact bi_nar) (Or.inr ⟨Nat.succ_pos n, rfl, op_U hO hC⟩)

theorem sp_X0_undo {G : GG} {h : HP} {X D R hd u : Nat} {aS : Nat → Nat → Nat} {wS : Nat → Nat → Int32} {sv : Bool} {rs dt : Int32} {tx la : Nat} (hO : CO X D R hd u aS sv rs dt tx la h) (hC : CS aS wS u sv h) : Ct G 4 0 M_X0_undo [.ref X] h (unQ X D R hd u aS wS sv rs dt tx la h) := by
  cases u with
  | zero => exact undo_0 hO
  | succ n => exact undo_1 hO hC
set_option maxHeartbeats 4000000 in
set_option maxRecDepth 100000 in
theorem sp_X0_save {G : GG} {h : HP} (hK : KS G) {X D R hd u : Nat} {aS : Nat → Nat → Nat} {wS : Nat → Nat → Int32} {sv : Bool} {rs dt : Int32} {tx la : Nat} (hO : CO X D R hd u aS sv rs dt tx la h) (hC : CS aS wS u sv h) {D9 : Int} (hI : Inv D9 (wS 0))  : Ct G 12 3600 M_X0_save [.ref X] h (rQ (fun v h' => v = some (.int (wS 0 2)) ∧ ∃ ad2 : Nat → Nat, CO X D R hd u (upS aS 9 ad2) true rs dt tx la h' ∧ CS (upS aS 9 ad2) (upS wS 9 (wS 0)) u true h' ∧ FR X D R aS wS u sv h (upS aS 9 ad2) (upS wS 9 (wS 0)) u true h')) := by
  refine ct_intro my_X0_save (Nat.le_of_ble_eq_true rfl) ?_
  have hX := hO.1
  have S0 := (hC.1 0 (Or.inl rfl)).1
  have I0 := (hC.1 0 (Or.inl rfl)).2
  obtain ⟨hw2, hw24, hw3, hw34, h6⟩ := inv_w hI
  first | refine r_aload_n dX0_save_0 rfl ?_ | refine r_aload_nq dX0_save_0 rfl ?_ | refine r_aload_nN dX0_save_0 rfl ?_
  first | refine r_aload_n dX0_save_1 rfl ?_ | refine r_aload_nq dX0_save_1 rfl ?_ | refine r_aload_nN dX0_save_1 rfl ?_
  refine r_getfield 0 0 dX0_save_2 rfl (Nat.le_of_ble_eq_true rfl) (lkA q404) (Or.inl rfl) (Or.inl hX) (by rfl) ?_
  refine r_invV dX0_save_5 (sp_X1_copy hK S0 I0 hw2 hw24 hw3 hw34 h6) rfl mo_X1_copy (Or.inl (s_0 S0)) rfl (lkA q434) (lkA q435) (lkA q436) rfl (lkA q65) mp_X1_copy (Nat.le_of_ble_eq_true rfl) (Nat.le_of_ble_eq_true rfl) (Nat.le_of_ble_eq_true rfl) (kr_r (fun v9 H1 p9 => ?_)) kx_r
  obtain ⟨ad2, rfl, i2, f2, s2, hx2⟩ := p9
  have a20 : ad2 0 ≠ X := Ne.symm (ne_o (f2 0 (by decide) (cdm_i (by omega))) hX)
  have a23 : ad2 3 ≠ X := Ne.symm (ne_o (f2 3 (by decide) (cdm_i (by omega))) hX)
  refine r_put 0 1 dX0_save_8 rfl (Nat.le_of_ble_eq_true rfl) (lkA q405) (Or.inl rfl) rfl (hx2 _ _ hX) (by dsimp only [List.set]) (Nat.le_of_ble_eq_true rfl) rfl rfl (by first | exact hu_hu | exact rfl) ?_
  first | refine r_aload_n dX0_save_11 rfl ?_ | refine r_aload_nq dX0_save_11 rfl ?_ | refine r_aload_nN dX0_save_11 rfl ?_
  refine r_getfield 0 1 dX0_save_12 rfl (Nat.le_of_ble_eq_true rfl) (lkA q405) (Or.inl rfl) (Or.inl hu_s) (by rfl) ?_
  refine r_getfieldN 1 1 dX0_save_15 rfl (Nat.le_of_ble_eq_true rfl) (lkT q299 rfl) (Or.inl rfl) (Or.inl ((hu_n a20).trans (s_0 s2))) (by rfl) ?_
  refine r_invV dX0_save_18 (sp_J2_size ((hu_n a23).trans (s_3 s2))) rfl mo_J2_size (Or.inl ((hu_n a23).trans (s_3 s2))) rfl (lkA q1802) (lkA q530) (lkA q2242) rfl (lkA q68) mp_J2_size (Nat.le_of_ble_eq_true rfl) (Nat.le_of_ble_eq_true rfl) (Nat.le_of_ble_eq_true rfl) (kr_e ?_) kx_e
  exact r_ireturn dX0_save_21 rfl (by first | rfl | exact bi_nar) ⟨rfl, ad2, op_Sv hO hC hx2 i2 f2 s2⟩

set_option maxHeartbeats 4000000 in
set_option maxRecDepth 100000 in
theorem restore_0 {G : GG} {h : HP} {X D R hd u : Nat} {aS : Nat → Nat → Nat} {wS : Nat → Nat → Int32} {rs dt : Int32} {tx la : Nat} (hO : CO X D R hd u aS false rs dt tx la h) (hC : CS aS wS u false h)  : Ct G 12 3600 M_X0_restore [.ref X] h (rQ (fun v h' => (false = false ∧ v = some (.int (-15)) ∧ h' = h) ∨ (false = true ∧ v = some (.int (wS 9 2)) ∧ ∃ ad2 : Nat → Nat, CO X D R 0 0 (upS aS 0 ad2) true rs dt tx la h' ∧ CS (upS aS 0 ad2) (upS wS 0 (wS 9)) 0 true h' ∧ FR X D R aS wS u false h (upS aS 0 ad2) (upS wS 0 (wS 9)) 0 true h'))) := by
  refine ct_intro my_X0_restore (Nat.le_of_ble_eq_true rfl) ?_
  have hX := hO.1
  first | refine r_aload_n dX0_restore_0 rfl ?_ | refine r_aload_nq dX0_restore_0 rfl ?_ | refine r_aload_nN dX0_restore_0 rfl ?_
  refine r_getfield 0 1 dX0_restore_1 rfl (Nat.le_of_ble_eq_true rfl) (lkA q405) (Or.inl rfl) (Or.inl hX) (show _ = some Value.null from rfl) ?_
  refine r_ifnonnullN dX0_restore_4 ?_
  refine r_bipush (v := (-15)) dX0_restore_7 rfl ?_
  exact r_ireturn dX0_restore_9 rfl (by first | rfl | exact bi_nar) (Or.inl ⟨rfl, rfl, rfl⟩)

set_option maxHeartbeats 4000000 in
set_option maxRecDepth 100000 in
theorem restore_1 {G : GG} {h : HP} (hK : KS G) {X D R hd u : Nat} {aS : Nat → Nat → Nat} {wS : Nat → Nat → Int32} {rs dt : Int32} {tx la : Nat} (hO : CO X D R hd u aS true rs dt tx la h) (hC : CS aS wS u true h) {D9 : Int} (hI : Inv D9 (wS 9)) : Ct G 12 3600 M_X0_restore [.ref X] h (rQ (fun v h' => (true = false ∧ v = some (.int (-15)) ∧ h' = h) ∨ (true = true ∧ v = some (.int (wS 9 2)) ∧ ∃ ad2 : Nat → Nat, CO X D R 0 0 (upS aS 0 ad2) true rs dt tx la h' ∧ CS (upS aS 0 ad2) (upS wS 0 (wS 9)) 0 true h' ∧ FR X D R aS wS u true h (upS aS 0 ad2) (upS wS 0 (wS 9)) 0 true h'))) := by
  refine ct_intro my_X0_restore (Nat.le_of_ble_eq_true rfl) ?_
  obtain ⟨hX, hD, hR, hh, hu8⟩ := id hO
  have eXD : X ≠ D := kd_ne hX hD (show 0 ≠ 13 by decide)
  have eXR : X ≠ R := kd_ne hX hR (show 0 ≠ 1017 by decide)
  have eRD : R ≠ D := kd_ne hR hD (show 1017 ≠ 13 by decide)
  have l9 : lvS u true 9 := Or.inr (Or.inr ⟨rfl, rfl⟩)
  have S9 := (hC.1 9 l9).1
  have I9 := (hC.1 9 l9).2
  obtain ⟨hw2, hw24, hw3, hw34, h6⟩ := inv_w hI
  first | refine r_aload_n dX0_restore_0 rfl ?_ | refine r_aload_nq dX0_restore_0 rfl ?_ | refine r_aload_nN dX0_restore_0 rfl ?_
  refine r_getfield 0 1 dX0_restore_1 rfl (Nat.le_of_ble_eq_true rfl) (lkA q405) (Or.inl rfl) (Or.inl hX) (show _ = some (Value.ref (aS 9 0)) from rfl) ?_
  refine r_ifnonnull 10 dX0_restore_4 rfl ?_
  first | refine r_aload_n dX0_restore_10 rfl ?_ | refine r_aload_nq dX0_restore_10 rfl ?_ | refine r_aload_nN dX0_restore_10 rfl ?_
  first | refine r_aload_n dX0_restore_11 rfl ?_ | refine r_aload_nq dX0_restore_11 rfl ?_ | refine r_aload_nN dX0_restore_11 rfl ?_
  refine r_getfield 0 1 dX0_restore_12 rfl (Nat.le_of_ble_eq_true rfl) (lkA q405) (Or.inl rfl) (Or.inl hX) (show _ = some (Value.ref (aS 9 0)) from rfl) ?_
  refine r_invV dX0_restore_15 (sp_X1_copy hK S9 I9 hw2 hw24 hw3 hw34 h6) rfl mo_X1_copy (Or.inl (s_0 S9)) rfl (lkA q434) (lkA q435) (lkA q436) rfl (lkA q65) mp_X1_copy (Nat.le_of_ble_eq_true rfl) (Nat.le_of_ble_eq_true rfl) (Nat.le_of_ble_eq_true rfl) (kr_r (fun v9 H1 p9 => ?_)) kx_r
  obtain ⟨ad2, rfl, i2, f2, s2, hx2⟩ := p9
  have f20 := f2 0 (by decide) (cdm_i (by omega))
  have f23 := f2 3 (by decide) (cdm_i (by omega))
  have a20 : ad2 0 ≠ X := Ne.symm (ne_o f20 hX)
  have a23 : ad2 3 ≠ X := Ne.symm (ne_o f23 hX)
  have hD1 : ∀ y, hu H1 X y D = some (bDq R hd u) := fun y => (hu_n (Ne.symm eXD)).trans (hx2 _ _ hD)
  have hR1 : ∀ y, hu H1 X y R = some (bDr hd u (fun i => aS (1 + i) 0)) := fun y => (hu_n (Ne.symm eXR)).trans (hx2 _ _ hR)
  refine r_put 0 0 dX0_restore_18 rfl (Nat.le_of_ble_eq_true rfl) (lkA q404) (Or.inl rfl) rfl (hx2 _ _ hX) (by dsimp only [List.set]) (Nat.le_of_ble_eq_true rfl) rfl rfl (by first | exact hu_hu | exact rfl) ?_
  first | refine r_aload_n dX0_restore_21 rfl ?_ | refine r_aload_nq dX0_restore_21 rfl ?_ | refine r_aload_nN dX0_restore_21 rfl ?_
  refine r_getfield 0 2 dX0_restore_22 rfl (Nat.le_of_ble_eq_true rfl) (lkA q406) (Or.inl rfl) (Or.inl hu_s) (by rfl) ?_
  refine r_invV dX0_restore_25 (sp_J9_clear (it := (fun i => aS (1 + i) 0)) (hD1 _) (hR1 _) hh (by omega)) rfl mo_J9_clear (Or.inl (hD1 _)) rfl (lkA q1877) (lkA q1878) (lkA q1879) rfl (lkA q77) mp_J9_clear (Nat.le_of_ble_eq_true rfl) (Nat.le_of_ble_eq_true rfl) (Nat.le_of_ble_eq_true rfl) (kr_e ?_) kx_e
  first | refine r_aload_n dX0_restore_28 rfl ?_ | refine r_aload_nq dX0_restore_28 rfl ?_ | refine r_aload_nN dX0_restore_28 rfl ?_
  refine r_getfield 0 0 dX0_restore_29 rfl (Nat.le_of_ble_eq_true rfl) (lkA q404) (Or.inl rfl) (Or.inl ((hu_n eXD).trans ((hu_n eXR).trans hu_s))) (by rfl) ?_
  refine r_getfieldN 1 1 dX0_restore_32 rfl (Nat.le_of_ble_eq_true rfl) (lkT q299 rfl) (Or.inl rfl) (Or.inl ((hu_n (Ne.symm (ne_o f20 hD))).trans ((hu_n (Ne.symm (ne_o f20 hR))).trans ((hu_n a20).trans (s_0 s2))))) (by rfl) ?_
  refine r_invV dX0_restore_35 (sp_J2_size ((hu_n (Ne.symm (ne_o f23 hD))).trans ((hu_n (Ne.symm (ne_o f23 hR))).trans ((hu_n a23).trans (s_3 s2))))) rfl mo_J2_size (Or.inl ((hu_n (Ne.symm (ne_o f23 hD))).trans ((hu_n (Ne.symm (ne_o f23 hR))).trans ((hu_n a23).trans (s_3 s2))))) rfl (lkA q1802) (lkA q530) (lkA q2242) rfl (lkA q68) mp_J2_size (Nat.le_of_ble_eq_true rfl) (Nat.le_of_ble_eq_true rfl) (Nat.le_of_ble_eq_true rfl) (kr_e ?_) kx_e
  exact r_ireturn dX0_restore_38 rfl (by first | rfl | exact bi_nar) (Or.inr ⟨rfl, rfl, ad2, op_Re hO hC hx2 i2 f2 s2⟩)

theorem sp_X0_restore {G : GG} {h : HP} (hK : KS G) {X D R hd u : Nat} {aS : Nat → Nat → Nat} {wS : Nat → Nat → Int32} {sv : Bool} {rs dt : Int32} {tx la : Nat} (hO : CO X D R hd u aS sv rs dt tx la h) (hC : CS aS wS u sv h) {D9 : Int} (hI : sv = true → Inv D9 (wS 9)) : Ct G 12 3600 M_X0_restore [.ref X] h (rQ (fun v h' => (sv = false ∧ v = some (.int (-15)) ∧ h' = h) ∨ (sv = true ∧ v = some (.int (wS 9 2)) ∧ ∃ ad2 : Nat → Nat, CO X D R 0 0 (upS aS 0 ad2) true rs dt tx la h' ∧ CS (upS aS 0 ad2) (upS wS 0 (wS 9)) 0 true h' ∧ FR X D R aS wS u sv h (upS aS 0 ad2) (upS wS 0 (wS 9)) 0 true h'))) := by
  cases sv with
  | false => exact restore_0 hO hC
  | true => exact restore_1 hK hO hC (hI rfl)
