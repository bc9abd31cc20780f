set_option maxRecDepth 100000
/-! ===== the component's world: its object, the deque of past companies, the companies ===== -/
def kd (b : Bd) : Nat := match b with
  | .inl p => p.1
  | .inr (.inl a) => 100 + a.1
  | .inr (.inr (.inl _)) => 102
  | .inr (.inr (.inr a)) => 1000 + a.2.1
def kin (n : Nat) : Prop := n = 1 ∨ n = 2 ∨ n = 4 ∨ n = 5 ∨ n = 10 ∨ n = 11 ∨ n = 12 ∨ n = 18 ∨ n = 100 ∨ n = 102 ∨ n = 1004 ∨ n = 1020
theorem kd_c {ad : Nat → Nat} {w : Nat → Int32} {j : Nat} : kin (kd (ccell ad w j)) := by
  unfold kin
  unfold ccell
  by_cases h0 : j = 0
  · rw [if_pos h0]; exact (Or.inl rfl)
  rw [if_neg h0]
  by_cases h1 : j = 1
  · rw [if_pos h1]; exact (Or.inr (Or.inr (Or.inr (Or.inr (Or.inl rfl)))))
  rw [if_neg h1]
  by_cases h2 : j = 2
  · rw [if_pos h2]; exact (Or.inr (Or.inr (Or.inr (Or.inr (Or.inr (Or.inr (Or.inr (Or.inr (Or.inr (Or.inr (Or.inr rfl)))))))))))
  rw [if_neg h2]
  by_cases h3 : j = 3
  · rw [if_pos h3]; exact (Or.inr (Or.inr (Or.inr (Or.inr (Or.inl rfl)))))
  rw [if_neg h3]
  by_cases h4 : j = 4
  · rw [if_pos h4]; exact (Or.inr (Or.inr (Or.inr (Or.inr (Or.inr (Or.inr (Or.inr (Or.inr (Or.inr (Or.inr (Or.inl rfl)))))))))))
  rw [if_neg h4]
  by_cases h5 : j = 5
  · rw [if_pos h5]; exact (Or.inr (Or.inr (Or.inr (Or.inr (Or.inr (Or.inl rfl))))))
  rw [if_neg h5]
  by_cases h6 : j = 6
  · rw [if_pos h6]; exact (Or.inr (Or.inr (Or.inr (Or.inr (Or.inr (Or.inr (Or.inr (Or.inr (Or.inl rfl)))))))))
  rw [if_neg h6]
  by_cases h7 : j < 30
  · rw [if_pos h7]; exact (Or.inr (Or.inl rfl))
  rw [if_neg h7]
  by_cases h8 : j < 50
  · rw [if_pos h8]; exact (Or.inr (Or.inr (Or.inr (Or.inr (Or.inr (Or.inr (Or.inl rfl)))))))
  rw [if_neg h8]
  by_cases h9 : j < 70
  · rw [if_pos h9]; exact (Or.inr (Or.inr (Or.inr (Or.inr (Or.inr (Or.inr (Or.inr (Or.inr (Or.inr (Or.inl rfl))))))))))
  rw [if_neg h9]
  by_cases h10 : j < 74
  · rw [if_pos h10]; exact (Or.inr (Or.inr (Or.inl rfl)))
  rw [if_neg h10]
  by_cases h11 : j < 78
  · rw [if_pos h11]; exact (Or.inr (Or.inr (Or.inr (Or.inr (Or.inr (Or.inr (Or.inr (Or.inr (Or.inl rfl)))))))))
  rw [if_neg h11]
  by_cases h12 : j % 2 = 0
  · rw [if_pos h12]; exact (Or.inr (Or.inr (Or.inr (Or.inl rfl))))
  rw [if_neg h12]
  exact (Or.inr (Or.inr (Or.inr (Or.inr (Or.inr (Or.inr (Or.inr (Or.inl rfl))))))))
theorem cF_kd {ad : Nat → Nat} {w : Nat → Int32} {h : HP} {q : Nat} {b : Bd} (hs : St h ad w) (hq : h q = some b) (hk : ¬ kin (kd b)) : cF ad w q = none := fam_none fun k h1 hd e => by
  have := hs k h1 hd
  rw [e, hq] at this
  rw [Option.some.inj this] at hk
  exact hk kd_c
theorem kn0 : ¬ kin 0 := by unfold kin; decide
theorem kn13 : ¬ kin 13 := by unfold kin; decide
theorem kn14 : ¬ kin 14 := by unfold kin; decide
theorem kn15 : ¬ kin 15 := by unfold kin; decide
theorem kn101 : ¬ kin 101 := by unfold kin; decide
theorem kn1017 : ¬ kin 1017 := by unfold kin; decide
/-- which of the companies there are: 0 the one of now, 1 .. u those of the past, 9 the one that is saved -/
def lvS (u : Nat) (sv : Bool) (s : Nat) : Prop := s = 0 ∨ (1 ≤ s ∧ s ≤ u) ∨ (s = 9 ∧ sv = true)
def svV (aS : Nat → Nat → Nat) (sv : Bool) : Value := if sv = true then .ref (aS 9 0) else .null
abbrev bX (aS : Nat → Nat → Nat) (sv : Bool) (D : Nat) (rs dt : Int32) (tx la : Nat) : Bd := bO 0 [.ref (aS 0 0), svV aS sv, .ref D, .int rs, .int dt, .ref tx, .ref la]
def CO (X D R hd u : Nat) (aS : Nat → Nat → Nat) (sv : Bool) (rs dt : Int32) (tx la : Nat) (h : HP) : Prop := h X = some (bX aS sv D rs dt tx la) ∧ h D = some (bDq R hd u) ∧ h R = some (bDr hd u (fun i => aS (1 + i) 0)) ∧ hd < 17 ∧ u ≤ 8
def CS (aS : Nat → Nat → Nat) (wS : Nat → Nat → Int32) (u : Nat) (sv : Bool) (h : HP) : Prop := (∀ s, lvS u sv s → St h (aS s) (wS s) ∧ cI (aS s) (wS s)) ∧ ∀ s t, s ≠ t → lvS u sv s → lvS u sv t → ∀ q, cF (aS s) (wS s) q = none ∨ cF (aS t) (wS t) q = none
/-- a place that is no company's -/
def frS (aS : Nat → Nat → Nat) (wS : Nat → Nat → Int32) (u : Nat) (sv : Bool) (q : Nat) : Prop := ∀ s, lvS u sv s → cF (aS s) (wS s) q = none
def FR (X D R : Nat) (aS : Nat → Nat → Nat) (wS : Nat → Nat → Int32) (u : Nat) (sv : Bool) (h : HP) (aS' : Nat → Nat → Nat) (wS' : Nat → Nat → Int32) (u' : Nat) (sv' : Bool) (h' : HP) : Prop := ∀ (q : Nat) (b : Bd), q ≠ X → q ≠ D → q ≠ R → frS aS wS u sv q → h q = some b → h' q = some b ∧ frS aS' wS' u' sv' q
theorem CO_ext {X D R hd u : Nat} {aS : Nat → Nat → Nat} {sv : Bool} {rs dt : Int32} {tx la : Nat} {h h' : HP} (hO : CO X D R hd u aS sv rs dt tx la h) (hx : Ext h h') : CO X D R hd u aS sv rs dt tx la h' := ⟨hx _ _ hO.1, hx _ _ hO.2.1, hx _ _ hO.2.2.1, hO.2.2.2⟩
theorem CS_ext {aS : Nat → Nat → Nat} {wS : Nat → Nat → Int32} {u : Nat} {sv : Bool} {h h' : HP} (hC : CS aS wS u sv h) (hx : Ext h h') : CS aS wS u sv h' := ⟨fun s hs => ⟨St_ext (hC.1 s hs).1 hx, (hC.1 s hs).2⟩, hC.2⟩
theorem FR_ext {X D R : Nat} {aS : Nat → Nat → Nat} {wS : Nat → Nat → Int32} {u : Nat} {sv : Bool} {h h' : HP} (hx : Ext h h') : FR X D R aS wS u sv h aS wS u sv h' := fun q b _ _ _ hf hb => ⟨hx q b hb, hf⟩
def ansV (r : OpR) : Int32 := match r with
  | .inl v => v
  | .inr (.inl _) => -14
  | .inr (.inr a) => a.1
def keptR (wS : Nat → Nat → Int32) (u : Nat) (w' : Nat → Int32) (wS' : Nat → Nat → Int32) (u' : Nat) : Prop := wS' 0 = w' ∧ wS' 9 = wS 9 ∧ ((u < 8 ∧ u' = u + 1 ∧ wS' (1 + u) = wS 0 ∧ ∀ i, i < u → wS' (1 + i) = wS (1 + i)) ∨ (u = 8 ∧ u' = 8 ∧ wS' 8 = wS 0 ∧ ∀ i, i < 7 → wS' (1 + i) = wS (2 + i)))
def resR (r : OpR) (wS : Nat → Nat → Int32) (u : Nat) (rs dt : Int32) (wS' : Nat → Nat → Int32) (u' : Nat) (rs' dt' : Int32) : Prop := match r with
  | .inl _ => wS' = wS ∧ u' = u ∧ rs' = rs ∧ dt' = dt
  | .inr (.inl a) => wS' = wS ∧ u' = u ∧ rs' = a.1 ∧ dt' = a.2
  | .inr (.inr a) => rs' = rs ∧ dt' = dt ∧ keptR wS u a.2 wS' u'
/-- what a public op that changes leaves -/
def puQ (X D R hd u : Nat) (aS : Nat → Nat → Nat) (wS : Nat → Nat → Int32) (sv : Bool) (rs dt : Int32) (tx la : Nat) (h : HP) (r : OpR) : Oc → HP → Prop := rQ (fun v h' => v = some (.int (ansV r)) ∧ ∃ (hd' u' : Nat) (aS' : Nat → Nat → Nat) (wS' : Nat → Nat → Int32) (rs' dt' : Int32), CO X D R hd' u' aS' sv rs' dt' tx la h' ∧ CS aS' wS' u' sv h' ∧ FR X D R aS wS u sv h aS' wS' u' sv h' ∧ resR r wS u rs dt wS' u' rs' dt')
theorem oQ_inr {ad : Nat → Nat} {w : Nat → Int32} {h0 h' : HP} {r : OpR} {q : Nat} (p : oQ ad w h0 r (.inr q) h') : ∃ a b, r = oR a b ∧ ∃ h1, Ext h0 h1 ∧ cH ad w h0 q = none ∧ h1 q = some (bRef a b) ∧ h' = cH ad w h1 := by
  rcases r with v | a | a
  · exact p.elim
  · exact ⟨a.1, a.2, rfl, p⟩
  · exact p.elim
theorem oQ_inl {ad : Nat → Nat} {w : Nat → Int32} {h0 h' : HP} {r : OpR} {v : Option Value} (p : oQ ad w h0 r (.inl v) h') : ∃ a w', r = oK a w' ∧ v = some (.int a) ∧ cP ad w h0 w' h' := by
  rcases r with v | a | a
  · exact p.elim
  · exact p.elim
  · exact ⟨a.1, a.2, rfl, p⟩
theorem cP_fr {ad : Nat → Nat} {w w' : Nat → Int32} {h H : HP} (hs : St h ad w) (hP : cP ad w h w' H) : ∀ (q : Nat) (b : Bd), cF ad w q = none → h q = some b → H q = some b := by
  obtain ⟨ad', h1, i', -, hf, -, hx, rfl⟩ := hP
  intro q b hq hb
  have hn : cF ad' w' q = none := fam_none fun k hk hd e => by
    rcases hf k hk hd with ⟨d1, e1⟩ | e1
    · exact fam_no hq hk d1 (e1.symm.trans e)
    · rw [e, ← St_eq hs, hb] at e1
      cases e1
  rw [cH, ov_n hn]
  exact hx q b hb
theorem fDq_cg {hd n : Nat} {it it' : Nat → Nat} (h : ∀ i, i < n → it i = it' i) : fDq hd n it = fDq hd n it' := by
  funext p
  unfold fDq
  by_cases e : p < 17 ∧ rg (p + 17 - hd) < n
  · rw [if_pos e, if_pos e, h _ e.2]
  · rw [if_neg e, if_neg e]
theorem kd_ne {h : HP} {p q : Nat} {b c : Bd} (hp : h p = some b) (hq : h q = some c) (hk : kd b ≠ kd c) : p ≠ q := fun e => by
  subst e
  exact hk (congrArg kd (Option.some.inj (hp.symm.trans hq)))
/-- a change is done and what was is kept, at the place p; the others move by g -/
theorem op_K {X D R hd u hd' u' p : Nat} {g : Nat → Nat} {aS : Nat → Nat → Nat} {wS : Nat → Nat → Int32} {sv : Bool} {rs dt : Int32} {tx la : Nat} {h H1 H2 : HP} {ad2 : Nat → Nat} {w' : Nat → Int32} {it' : Nat → Nat} (hO : CO X D R hd u aS sv rs dt tx la h) (hC : CS aS wS u sv h) (hx : Ext h H1) (i2 : cI ad2 (wS 0)) (f2 : ∀ k, k < 160 → cdom (wS 0) k = true → h (ad2 k) = none) (s2 : St H1 ad2 (wS 0)) (hP : cP (aS 0) (wS 0) H1 w' H2) (hd17 : hd' < 17) (u8 : u' ≤ 8) (hp : 1 ≤ p ∧ p ≤ u') (hg : ∀ s, lvS u' sv s → s ≠ 0 → s ≠ p → lvS u sv (g s) ∧ g s ≠ 0) (gi : ∀ s t, lvS u' sv s → lvS u' sv t → s ≠ 0 → s ≠ p → t ≠ 0 → t ≠ p → s ≠ t → g s ≠ g t) (g9 : g 9 = 9) (hit : ∀ i, i < u' → it' i = if 1 + i = p then ad2 0 else aS (g (1 + i)) 0) : ∃ (aS' : Nat → Nat → Nat) (wS' : Nat → Nat → Int32), CO X D R hd' u' aS' sv rs dt tx la (hu (hu H2 R (bDr hd' u' it')) D (bDq R hd' u')) ∧ CS aS' wS' u' sv (hu (hu H2 R (bDr hd' u' it')) D (bDq R hd' u')) ∧ FR X D R aS wS u sv h aS' wS' u' sv (hu (hu H2 R (bDr hd' u' it')) D (bDq R hd' u')) ∧ wS' 0 = w' ∧ wS' p = wS 0 ∧ ∀ s, s ≠ 0 → s ≠ p → wS' s = wS (g s) := by
  obtain ⟨hX, hD, hR, hh, hu9⟩ := hO
  have l0 : lvS u sv 0 := Or.inl rfl
  have S0 := (hC.1 0 l0).1
  have I0 := (hC.1 0 l0).2
  have S01 : St H1 (aS 0) (wS 0) := St_ext S0 hx
  have fr2 := cP_fr S01 hP
  obtain ⟨ad', h1, i', e0, hf, hm, hx1, hH2⟩ := hP
  have S' : St H2 ad' w' := by rw [hH2]; exact St_cH i'
  have nX : ∀ s, lvS u sv s → cF (aS s) (wS s) X = none := fun s hs => cF_kd (hC.1 s hs).1 hX kn0
  have nD : ∀ s, lvS u sv s → cF (aS s) (wS s) D = none := fun s hs => cF_kd (hC.1 s hs).1 hD kn13
  have nR : ∀ s, lvS u sv s → cF (aS s) (wS s) R = none := fun s hs => cF_kd (hC.1 s hs).1 hR kn1017
  have hX2 : H2 X = some (bX aS sv D rs dt tx la) := fr2 _ _ (nX 0 l0) (hx _ _ hX)
  have hD2 : H2 D = some (bDq R hd u) := fr2 _ _ (nD 0 l0) (hx _ _ hD)
  have hR2 : H2 R = some (bDr hd u (fun i => aS (1 + i) 0)) := fr2 _ _ (nR 0 l0) (hx _ _ hR)
  have eXD : X ≠ D := kd_ne hX hD (show 0 ≠ 13 by decide)
  have eXR : X ≠ R := kd_ne hX hR (show 0 ≠ 1017 by decide)
  have eRD : R ≠ D := kd_ne hR hD (show 1017 ≠ 13 by decide)
  -- what the new company of now is made of
  have c0 : ∀ q b, h q = some b → cF (aS 0) (wS 0) q = none → cF ad' w' q = none := fun q b hb hq => fam_none fun k hk hd3 e => by
    rcases hf k hk hd3 with ⟨d1, e1⟩ | e1
    · exact fam_no hq hk d1 (e1.symm.trans e)
    · rw [e, ← St_eq S01, hx q b hb] at e1
      cases e1
  have c2 : ∀ q b, h q = some b → cF ad2 (wS 0) q = none := fun q b hb => fam_none fun k hk hd3 e => by
    rw [← e, f2 k hk hd3] at hb
    cases hb
  have c02 : ∀ q, cF ad' w' q = none ∨ cF ad2 (wS 0) q = none := fun q => by
    cases e2 : cF ad2 (wS 0) q with
    | none => exact Or.inr rfl
    | some b =>
      refine Or.inl (fam_none fun k hk hd3 e => ?_)
      have hq1 : H1 q = some b := St_in s2 e2
      rcases hf k hk hd3 with ⟨d1, e1⟩ | e1
      · have := S0 k hk d1
        rw [← e1, e] at this
        rw [c2 q _ this] at e2
        cases e2
      · rw [e, ← St_eq S01, hq1] at e1
        cases e1
  have t2 : St H2 ad2 (wS 0) := fun k hk hd3 => fr2 _ _ (fam_none fun j hj dj e => by
    have := S0 j hj dj
    rw [e, f2 k hk hd3] at this
    cases this) (s2 k hk hd3)
  have tS : ∀ s, lvS u sv s → s ≠ 0 → St H2 (aS s) (wS s) := fun s hs s0 k hk hd3 => fr2 _ _ (by
    rcases hC.2 s 0 s0 hs l0 (aS s k) with e | e
    · exact absurd rfl (fam_no e hk hd3)
    · exact e) (hx _ _ ((hC.1 s hs).1 k hk hd3))
  -- the two cells of the deque are no company's
  have stp : ∀ (ad3 : Nat → Nat) (w3 : Nat → Int32), St H2 ad3 w3 → St (hu (hu H2 R (bDr hd' u' it')) D (bDq R hd' u')) ad3 w3 := fun ad3 w3 hs k hk hd3 => by
    have h9 := hs k hk hd3
    have eD : ad3 k ≠ D := fun e => by
      rw [e, hD2] at h9
      exact kn13 (by rw [show 13 = kd (bDq R hd u) from rfl, Option.some.inj h9]; exact kd_c)
    have eR : ad3 k ≠ R := fun e => by
      rw [e, hR2] at h9
      exact kn1017 (by rw [show 1017 = kd (bDr hd u (fun i => aS (1 + i) 0)) from rfl, Option.some.inj h9]; exact kd_c)
    rw [hu_n eD, hu_n eR, h9]
  generalize hA : (fun s => if s = 0 then ad' else if s = p then ad2 else aS (g s)) = aS'
  generalize hW : (fun s => if s = 0 then w' else if s = p then wS 0 else wS (g s)) = wS'
  have a0 : aS' 0 = ad' := by rw [← hA]; exact if_pos rfl
  have ap : aS' p = ad2 := by rw [← hA]; exact (if_neg (by omega)).trans (if_pos rfl)
  have ag : ∀ s, s ≠ 0 → s ≠ p → aS' s = aS (g s) := fun s h0 h1 => by rw [← hA]; exact (if_neg h0).trans (if_neg h1)
  have v0 : wS' 0 = w' := by rw [← hW]; exact if_pos rfl
  have vp : wS' p = wS 0 := by rw [← hW]; exact (if_neg (by omega)).trans (if_pos rfl)
  have vg : ∀ s, s ≠ 0 → s ≠ p → wS' s = wS (g s) := fun s h0 h1 => by rw [← hW]; exact (if_neg h0).trans (if_neg h1)
  have hsv : svV aS' sv = svV aS sv := by unfold svV; rw [ag 9 (by omega) (by omega), g9]
  refine ⟨aS', wS', ⟨?_, ?_, ?_, hd17, u8⟩, ⟨fun s hs => ?_, fun s t hst hs ht q => ?_⟩, fun q b qX qD qR hfr hb => ⟨?_, fun s hs => ?_⟩, v0, vp, vg⟩
  · rw [hu_n eXD, hu_n eXR, hX2, bX, bX, hsv, a0, e0]
  · exact hu_s
  · rw [hu_n eRD, hu_s]
    refine congrArg (fun f => some (bR 3 17 f)) (fDq_cg fun i hi => ?_)
    rw [hit i hi]
    by_cases e : 1 + i = p
    · rw [if_pos e, e, ap]
    · rw [if_neg e, ag _ (by omega) e]
  · by_cases s0 : s = 0
    · subst s0
      rw [a0, v0]
      exact ⟨stp _ _ S', i'⟩
    · by_cases sp : s = p
      · subst sp
        rw [ap, vp]
        exact ⟨stp _ _ t2, i2⟩
      · obtain ⟨l1, g0⟩ := hg s hs s0 sp
        rw [ag s s0 sp, vg s s0 sp]
        exact ⟨stp _ _ (tS _ l1 g0), (hC.1 _ l1).2⟩
  · have old : ∀ t, lvS u' sv t → t ≠ 0 → t ≠ p → ∀ q, cF (aS' t) (wS' t) q = none ∨ ∃ b, h q = some b ∧ cF (aS 0) (wS 0) q = none := fun t ht t0 tp q => by
      obtain ⟨l1, g0⟩ := hg t ht t0 tp
      rw [ag t t0 tp, vg t t0 tp]
      cases e : cF (aS (g t)) (wS (g t)) q with
      | none => exact Or.inl rfl
      | some b =>
        refine Or.inr ⟨b, St_in (hC.1 _ l1).1 e, ?_⟩
        rcases hC.2 (g t) 0 g0 l1 l0 q with e9 | e9
        · rw [e] at e9; cases e9
        · exact e9
    by_cases s0 : s = 0
    · subst s0
      by_cases tp : t = p
      · subst tp
        rw [a0, v0, ap, vp]
        exact c02 q
      · rcases old t ht (Ne.symm hst) tp q with e | ⟨b, e1, e2⟩
        · exact Or.inr e
        · refine Or.inl ?_
          rw [a0, v0]
          exact c0 q b e1 e2
    · by_cases sp : s = p
      · subst sp
        by_cases t0 : t = 0
        · subst t0
          rw [a0, v0, ap, vp]
          exact (c02 q).symm
        · rcases old t ht t0 (Ne.symm hst) q with e | ⟨b, e1, e2⟩
          · exact Or.inr e
          · refine Or.inl ?_
            rw [ap, vp]
            exact c2 q b e1
      · by_cases t0 : t = 0
        · subst t0
          rcases old s hs s0 sp q with e | ⟨b, e1, e2⟩
          · exact Or.inl e
          · refine Or.inr ?_
            rw [a0, v0]
            exact c0 q b e1 e2
        · by_cases tp : t = p
          · subst tp
            rcases old s hs s0 sp q with e | ⟨b, e1, e2⟩
            · exact Or.inl e
            · refine Or.inr ?_
              rw [ap, vp]
              exact c2 q b e1
          · rw [ag s s0 sp, vg s s0 sp, ag t t0 tp, vg t t0 tp]
            exact hC.2 _ _ (gi s t hs ht s0 sp t0 tp hst) (hg s hs s0 sp).1 (hg t ht t0 tp).1 q
  · rw [hu_n qD, hu_n qR]
    exact fr2 q b (hfr 0 l0) (hx q b hb)
  · by_cases s0 : s = 0
    · subst s0
      rw [a0, v0]
      exact c0 q b hb (hfr 0 l0)
    · by_cases sp : s = p
      · subst sp
        rw [ap, vp]
        exact c2 q b hb
      · rw [ag s s0 sp, vg s s0 sp]
        exact hfr _ (hg s hs s0 sp).1
/-- the deque with one company more: eight at the most -/
def chD (hd n : Nat) (it : Nat → Nat) (v : Nat) (hd' n' : Nat) (it' : Nat → Nat) : Prop := hd' < 17 ∧ ((n < 8 ∧ n' = n + 1 ∧ it' = fun i => if i = n then v else it i) ∨ (n = 8 ∧ n' = 8 ∧ it' = fun i => if i + 1 = 8 then v else it (i + 1)))
theorem op_K2 {X D R hd u hd' u' : Nat} {aS : Nat → Nat → Nat} {wS : Nat → Nat → Int32} {sv : Bool} {rs dt : Int32} {tx la : Nat} {h H1 H2 : HP} {ad2 : Nat → Nat} {a : Int32} {w' : Nat → Int32} {it' : Nat → Nat} (hO : CO X D R hd u aS sv rs dt tx la h) (hC : CS aS wS u sv h) (hx : Ext h H1) (i2 : cI ad2 (wS 0)) (f2 : ∀ k, k < 160 → cdom (wS 0) k = true → h (ad2 k) = none) (s2 : St H1 ad2 (wS 0)) (hP : cP (aS 0) (wS 0) H1 w' H2) (hch : chD hd u (fun i => aS (1 + i) 0) (ad2 0) hd' u' it') : puQ X D R hd u aS wS sv rs dt tx la h (oK a w') (.inl (some (.int a))) (hu (hu H2 R (bDr hd' u' it')) D (bDq R hd' u')) := by
  have hu8 := hO.2.2.2.2
  obtain ⟨h17, ⟨u8, rfl, rfl⟩ | ⟨rfl, rfl, rfl⟩⟩ := hch
  · obtain ⟨aS', wS', h1, h2, h3, e0, ep, eg⟩ := op_K (u' := u + 1) (p := 1 + u) (g := fun s => s) (it' := fun i => if i = u then ad2 0 else aS (1 + i) 0) hO hC hx i2 f2 s2 hP h17 (by omega) ⟨by omega, by omega⟩ (fun s hs s0 sp => ⟨by
      rcases hs with h | h | h
      · exact absurd h s0
      · exact Or.inr (Or.inl ⟨by omega, by omega⟩)
      · exact Or.inr (Or.inr h), s0⟩) (fun s t _ _ _ _ _ _ hst => hst) rfl (fun i hi => by
      by_cases e : i = u
      · rw [if_pos e, if_pos (by omega)]
      · rw [if_neg e, if_neg (by omega)])
    exact ⟨rfl, hd', u + 1, aS', wS', rs, dt, h1, h2, h3, rfl, rfl, e0, eg 9 (by omega) (by omega), Or.inl ⟨u8, rfl, ep, fun i hi => eg _ (by omega) (by omega)⟩⟩
  · have g1 : ∀ s, s ≤ 8 → (if s ≤ 8 then s + 1 else s) = s + 1 := fun s h => if_pos h
    have g2 : ∀ s, ¬ s ≤ 8 → (if s ≤ 8 then s + 1 else s) = s := fun s h => if_neg h
    obtain ⟨aS', wS', h1, h2, h3, e0, ep, eg⟩ := op_K (u' := 8) (p := 8) (g := fun s => if s ≤ 8 then s + 1 else s) (it' := fun i => if i + 1 = 8 then ad2 0 else aS (1 + (i + 1)) 0) hO hC hx i2 f2 s2 hP h17 (by omega) ⟨by omega, by omega⟩ (fun s hs s0 sp => by
      rcases hs with h | h | h
      · exact absurd h s0
      · refine ⟨?_, ?_⟩
        · show lvS 8 sv (if s ≤ 8 then s + 1 else s)
          rw [g1 s h.2]
          exact Or.inr (Or.inl ⟨by omega, by omega⟩)
        · show (if s ≤ 8 then s + 1 else s) ≠ 0
          rw [g1 s h.2]
          omega
      · rw [h.1]
        exact ⟨Or.inr (Or.inr ⟨rfl, h.2⟩), by decide⟩) (fun s t hs ht s0 sp t0 tp hst => by
      show (if s ≤ 8 then s + 1 else s) ≠ (if t ≤ 8 then t + 1 else t)
      have a1 : s ≤ 7 ∨ s = 9 := by rcases hs with h | h | h <;> omega
      have a2 : t ≤ 7 ∨ t = 9 := by rcases ht with h | h | h <;> omega
      by_cases b1 : s ≤ 8
      · rw [g1 s b1]
        by_cases b2 : t ≤ 8
        · rw [g1 t b2]; omega
        · rw [g2 t b2]; omega
      · rw [g2 s b1]
        by_cases b2 : t ≤ 8
        · rw [g1 t b2]; omega
        · rw [g2 t b2]; omega) rfl (fun i hi => by
      show (if i + 1 = 8 then ad2 0 else aS (1 + (i + 1)) 0) = if 1 + i = 8 then ad2 0 else aS (if 1 + i ≤ 8 then 1 + i + 1 else 1 + i) 0
      by_cases e : i + 1 = 8
      · rw [if_pos e, if_pos (by omega)]
      · rw [if_neg e, if_neg (by omega), if_pos (by omega), Nat.add_assoc])
    refine ⟨rfl, hd', 8, aS', wS', rs, dt, h1, h2, h3, rfl, rfl, e0, eg 9 (by omega) (by omega), Or.inr ⟨rfl, rfl, ep, fun i hi => ?_⟩⟩
    rw [eg _ (by omega) (by omega)]
    show wS (if 1 + i ≤ 8 then 1 + i + 1 else 1 + i) = _
    rw [g1 _ (by omega), show 1 + i + 1 = 2 + i by omega]
/-- a refusal -/
theorem op_R {X D R hd u : Nat} {aS : Nat → Nat → Nat} {wS : Nat → Nat → Int32} {sv : Bool} {rs dt a b : Int32} {tx la : Nat} {h H : HP} (hO : CO X D R hd u aS sv rs dt tx la h) (hC : CS aS wS u sv h) (hx : Ext h H) : puQ X D R hd u aS wS sv rs dt tx la h (oR a b) (.inl (some (.int (-14)))) (hu H X (bX aS sv D a b tx la)) := by
  have hO1 := CO_ext hO hx
  have hC1 := CS_ext hC hx
  have nX : ∀ s, lvS u sv s → cF (aS s) (wS s) X = none := fun s hs => cF_kd (hC.1 s hs).1 hO.1 kn0
  refine ⟨rfl, hd, u, aS, wS, a, b, ⟨hu_s, ?_, ?_, hO.2.2.2⟩, ⟨fun s hs => ⟨St_hu (hC1.1 s hs).1 (nX s hs), (hC.1 s hs).2⟩, hC.2⟩, fun q c qX _ _ hf hc => ⟨?_, hf⟩, rfl, rfl, rfl, rfl⟩
  · rw [hu_n (kd_ne hO.2.1 hO.1 (show 13 ≠ 0 by decide))]
    exact hO1.2.1
  · rw [hu_n (kd_ne hO.2.2.1 hO.1 (show 1017 ≠ 0 by decide))]
    exact hO1.2.2.1
  · rw [hu_n qX]
    exact hx q c hc
theorem op_C {X D R hd u : Nat} {aS : Nat → Nat → Nat} {wS : Nat → Nat → Int32} {sv : Bool} {rs dt v : Int32} {tx la : Nat} {h : HP} (hO : CO X D R hd u aS sv rs dt tx la h) (hC : CS aS wS u sv h) : puQ X D R hd u aS wS sv rs dt tx la h (oC v) (.inl (some (.int v))) h := ⟨rfl, hd, u, aS, wS, rs, dt, hO, hC, FR_ext Ext.rf, rfl, rfl, rfl, rfl⟩
theorem rem_eq {h : HP} {R D hd u v : Nat} {it : Nat → Nat} {A B : Bd} (e : R ≠ D) (hu8 : u = 8) : hu (hu (hu (hu h R A) D B) R (bDr (rg (hd + 1)) u (fun i => if i + 1 = u then v else it (i + 1)))) D (bDq R (rg (hd + 1)) u) = hu (hu h R (bDr (rg (hd + 1)) u (fun i => if i + 1 = 8 then v else it (i + 1)))) D (bDq R (rg (hd + 1)) u) := by
  subst hu8
  rw [hu_c (Ne.symm e), hu_hu, hu_hu]
set_option maxHeartbeats 4000000 in
set_option maxRecDepth 100000 in
theorem sp_X0_changed {G : GG} {h : HP} {X D R hd u : Nat} {aS : Nat → Nat → Nat} {sv : Bool} {rs dt : Int32} {tx la : Nat} (hO : CO X D R hd u aS sv rs dt tx la h) {v : Nat} {t : Int32} {fs : List Value} (hv : h v = some (bO 1 fs)) (evD : v ≠ D) : Ct G 3 0 M_X0_changed [.ref X, .ref v, .int t] h (rQ (fun y h' => y = some (.int t) ∧ ∃ hd' u' it', chD hd u (fun i => aS (1 + i) 0) v hd' u' it' ∧ h' = hu (hu h R (bDr hd' u' it')) D (bDq R hd' u'))) := by
  refine ct_intro my_X0_changed (Nat.le_of_ble_eq_true rfl) ?_
  obtain ⟨hX, hD, hR, hh, hu8⟩ := hO
  have eXD : X ≠ D := kd_ne hX hD (show 0 ≠ 13 by decide)
  have eXR : X ≠ R := kd_ne hX hR (show 0 ≠ 1017 by decide)
  have eRD : R ≠ D := kd_ne hR hD (show 1017 ≠ 13 by decide)
  have hX1 : ∀ y z, hu (hu h R y) D z X = some (bX aS sv D rs dt tx la) := fun y z => (hu_n eXD).trans ((hu_n eXR).trans hX)
  have hR1 : ∀ y z, hu (hu h R y) D z R = some y := fun y z => (hu_n eRD).trans hu_s
  first | refine r_aload_n dX0_changed_0 rfl ?_ | refine r_aload_nq dX0_changed_0 rfl ?_ | refine r_aload_nN dX0_changed_0 rfl ?_
  refine r_getfield 0 2 dX0_changed_1 rfl (Nat.le_of_ble_eq_true rfl) (lkA q406) (Or.inl rfl) (by first | exact Or.inl (by assumption) | assumption | (refine Or.inl ?_; repeat' first | assumption | exact hu_s | refine hu_o (by assumption) ?_ | refine (hu_n (by first | assumption | exact Ne.symm (by assumption) | exact ne_o (by assumption) (by assumption) | exact Ne.symm (ne_o (by assumption) (by assumption)))).trans ?_)) (by rfl) ?_
  first | refine r_aload_n dX0_changed_4 rfl ?_ | refine r_aload_nq dX0_changed_4 rfl ?_ | refine r_aload_nN dX0_changed_4 rfl ?_
  refine r_invV dX0_changed_5 (sp_J9_addLast hD hR hh (by omega) hv rfl (Or.inr (lkT q2254 rfl)) evD) rfl mo_J9_addLast (Or.inl hD) rfl (lkA q1086) (lkA q1087) (lkA q1088) rfl (lkA q77) mp_J9_addLast (Nat.le_of_ble_eq_true rfl) (Nat.le_of_ble_eq_true rfl) (Nat.le_of_ble_eq_true rfl) (kr_e ?_) kx_e
  first | refine r_aload_n dX0_changed_8 rfl ?_ | refine r_aload_nq dX0_changed_8 rfl ?_ | refine r_aload_nN dX0_changed_8 rfl ?_
  refine r_getfield 0 2 dX0_changed_9 rfl (Nat.le_of_ble_eq_true rfl) (lkA q406) (Or.inl rfl) (Or.inl (hX1 _ _)) (by rfl) ?_
  refine r_invV dX0_changed_12 (sp_J9_size (it := (fun i => if i = u then v else aS (1 + i) 0)) hu_s (hR1 _ _) hh (by omega)) rfl mo_J9_size (Or.inl hu_s) rfl (lkA q1105) (lkA q1106) (lkA q1107) rfl (lkA q77) mp_J9_size (Nat.le_of_ble_eq_true rfl) (Nat.le_of_ble_eq_true rfl) (Nat.le_of_ble_eq_true rfl) (kr_e ?_) kx_e
  have eu := nIn (show u + 1 < 1000 by omega)
  refine r_bipush (v := 8) dX0_changed_15 rfl ?_
  refine r_icmp_le 28 dX0_changed_17 rfl (fun c17 => ?_) (fun c17 => ?_)
  · refine r_iload_n dX0_changed_28 rfl ?_
    exact r_ireturn dX0_changed_29 rfl (by first | rfl | exact bi_nar) ⟨rfl, hd, u + 1, _, ⟨hh, Or.inl ⟨by rw [Int32.le_iff_toInt_le, eu] at c17; have h8 : (8 : Int32).toInt = 8 := rfl; omega, rfl, rfl⟩⟩, rfl⟩
  · have u8 : u = 8 := by
      rw [Int32.le_iff_toInt_le, eu] at c17
      have h8 : (8 : Int32).toInt = 8 := rfl
      omega
    first | refine r_aload_n dX0_changed_20 rfl ?_ | refine r_aload_nq dX0_changed_20 rfl ?_ | refine r_aload_nN dX0_changed_20 rfl ?_
    refine r_getfield 0 2 dX0_changed_21 rfl (Nat.le_of_ble_eq_true rfl) (lkA q406) (Or.inl rfl) (Or.inl (hX1 _ _)) (by rfl) ?_
    refine r_invV dX0_changed_24 (sp_J9_removeFirst (n := u) (it := (fun i => if i = u then v else aS (1 + i) 0)) hu_s (hR1 _ _) hh (by omega)) rfl mo_J9_removeFirst (Or.inl hu_s) rfl (lkA q1112) (lkA q1113) (lkA q1114) rfl (lkA q77) mp_J9_removeFirst (Nat.le_of_ble_eq_true rfl) (Nat.le_of_ble_eq_true rfl) (Nat.le_of_ble_eq_true rfl) (kr_e ?_) kx_e
    refine r_pop dX0_changed_27 rfl ?_
    refine r_iload_n dX0_changed_28 rfl ?_
    exact r_ireturn dX0_changed_29 rfl (by first | rfl | exact bi_nar) ⟨rfl, rg (hd + 1), u, _, ⟨rg_lt (by omega), Or.inr ⟨u8, u8, rfl⟩⟩, rem_eq (it := fun i => aS (1 + i) 0) eRD u8⟩

set_option maxHeartbeats 4000000 in
set_option maxRecDepth 100000 in
theorem sp_X0_refused {G : GG} {h : HP} {X D : Nat} {aS : Nat → Nat → Nat} {sv : Bool} {rs dt a b : Int32} {tx la q : Nat} (hX : h X = some (bX aS sv D rs dt tx la)) (hq : h q = some (bRef a b)) : Ct G 0 0 M_X0_refused [.ref X, .ref q] h (eQ (some (.int (-14))) (hu h X (bX aS sv D a b tx la))) := by
  refine ct_intro my_X0_refused (Nat.le_of_ble_eq_true rfl) ?_
  first | refine r_aload_n dX0_refused_0 rfl ?_ | refine r_aload_nq dX0_refused_0 rfl ?_ | refine r_aload_nN dX0_refused_0 rfl ?_
  first | refine r_aload_n dX0_refused_1 rfl ?_ | refine r_aload_nq dX0_refused_1 rfl ?_ | refine r_aload_nN dX0_refused_1 rfl ?_
  refine r_getfieldN 6 6 dX0_refused_2 rfl (Nat.le_of_ble_eq_true rfl) (lkT q1072 rfl) (Or.inl rfl) (Or.inl hq) (by rfl) ?_
  refine r_put 0 3 dX0_refused_5 rfl (Nat.le_of_ble_eq_true rfl) (lkA q407) (Or.inl rfl) rfl (by repeat' first | assumption | exact hu_s | refine hu_o (by assumption) ?_ | refine (hu_n (by first | assumption | exact Ne.symm (by assumption) | exact ne_o (by assumption) (by assumption) | exact Ne.symm (ne_o (by assumption) (by assumption)))).trans ?_) (by dsimp only [List.set]) (Nat.le_of_ble_eq_true rfl) rfl rfl (by first | exact hu_hu | exact rfl) ?_
  first | refine r_aload_n dX0_refused_8 rfl ?_ | refine r_aload_nq dX0_refused_8 rfl ?_ | refine r_aload_nN dX0_refused_8 rfl ?_
  first | refine r_aload_n dX0_refused_9 rfl ?_ | refine r_aload_nq dX0_refused_9 rfl ?_ | refine r_aload_nN dX0_refused_9 rfl ?_
  refine r_getfieldN 6 7 dX0_refused_10 rfl (Nat.le_of_ble_eq_true rfl) (lkT q1074 rfl) (Or.inl rfl) (Or.inl ((hu_n (ne_O hX hq (by decide))).trans hq)) (by rfl) ?_
  refine r_put 0 4 dX0_refused_13 rfl (Nat.le_of_ble_eq_true rfl) (lkA q408) (Or.inl rfl) rfl (by repeat' first | assumption | exact hu_s | refine hu_o (by assumption) ?_ | refine (hu_n (by first | assumption | exact Ne.symm (by assumption) | exact ne_o (by assumption) (by assumption) | exact Ne.symm (ne_o (by assumption) (by assumption)))).trans ?_) (by dsimp only [List.set]) (Nat.le_of_ble_eq_true rfl) rfl rfl (by first | exact hu_hu | exact rfl) ?_
  refine r_bipush (v := (-14)) dX0_refused_16 rfl ?_
  exact r_ireturn dX0_refused_18 rfl (by first | rfl | exact bi_nar) (by first | exact ⟨rfl, rfl⟩ | rfl)

