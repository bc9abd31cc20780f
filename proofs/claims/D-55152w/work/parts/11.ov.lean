set_option maxRecDepth 100000
/-! ===== parts of a heap: overlays and families of cells ===== -/
theorem hu_o {h : HP} {q a : Nat} {b b' : Bd} (hq : h q = none) (ha : h a = some b) : hu h q b' a = some b := (hu_n (fun e => by rw [e, hq] at ha; cases ha)).trans ha
theorem ne_o {h : HP} {q a : Nat} {b : Bd} (hq : h q = none) (ha : h a = some b) : a ≠ q := fun e => by rw [e, hq] at ha; cases ha
theorem ne_b {h : HP} {q a : Nat} {b b' : Bd} (hq : h q = some b') (ha : h a = some b) (hb : b ≠ b') : a ≠ q := fun e => by
  subst e
  exact hb (Option.some.inj (ha.symm.trans hq))
theorem ne_O {h : HP} {q a i j : Nat} {x y : List Value} (hq : h q = some (bO i x)) (ha : h a = some (bO j y)) (hb : i ≠ j) : a ≠ q := fun e => by
  subst e
  have := ha.symm.trans hq
  cases this
  exact hb rfl
def ov (P h : HP) : HP := fun q => match P q with
  | some b => some b
  | none => h q
theorem ov_s {P h : HP} {a : Nat} {b : Bd} (hp : P a = some b) : ov P h a = some b := by simp [ov, hp]
theorem ov_n {P h : HP} {a : Nat} (hp : P a = none) : ov P h a = h a := by simp [ov, hp]
theorem ov_none {P h : HP} {a : Nat} (hp : ov P h a = none) : P a = none ∧ h a = none := by
  cases e : P a with
  | none => exact ⟨rfl, by rw [ov_n e] at hp; exact hp⟩
  | some b => rw [ov_s e] at hp; cases hp
theorem hu_ov {P h : HP} {a : Nat} {b : Bd} : hu (ov P h) a b = ov (hu P a b) h := by
  funext q
  by_cases e : q = a
  · subst e
    rw [hu_s, ov_s hu_s]
  · rw [hu_n e]
    cases e2 : P q with
    | none => rw [ov_n e2, ov_n ((hu_n e).trans e2)]
    | some b' => rw [ov_s e2, ov_s ((hu_n e).trans e2)]
theorem hu_ovn {P h : HP} {a : Nat} {b : Bd} (hp : P a = none) : hu (ov P h) a b = ov P (hu h a b) := by
  funext q
  by_cases e : q = a
  · subst e
    rw [hu_s, ov_n hp, hu_s]
  · rw [hu_n e]
    cases e2 : P q with
    | none => rw [ov_n e2, ov_n e2, hu_n e]
    | some b' => rw [ov_s e2, ov_s e2]
theorem ov_comm {P Q h : HP} (hd : ∀ q, P q = none ∨ Q q = none) : ov P (ov Q h) = ov Q (ov P h) := by
  funext q
  cases e : P q with
  | none =>
    rw [ov_n e]
    cases e2 : Q q with
    | none => rw [ov_n e2, ov_n e2, ov_n e]
    | some b => rw [ov_s e2, ov_s e2]
  | some b =>
    have e2 : Q q = none := (hd q).resolve_left (by rw [e]; exact fun h => by cases h)
    rw [ov_s e, ov_n e2, ov_s e]
def Ext (h h' : HP) : Prop := ∀ (q : Nat) (b : Bd), h q = some b → h' q = some b
theorem Ext.rf {h : HP} : Ext h h := fun _ _ h => h
theorem Ext.tr {h1 h2 h3 : HP} (a : Ext h1 h2) (b : Ext h2 h3) : Ext h1 h3 := fun q x h => b q x (a q x h)
theorem Ext.new {h : HP} {q : Nat} {b : Bd} (hq : h q = none) : Ext h (hu h q b) := fun _ _ ha => hu_o hq ha
theorem Ext.none {h h' : HP} (e : Ext h h') {q : Nat} (hq : h' q = none) : h q = none := by
  cases e2 : h q with
  | none => rfl
  | some b => rw [e q b e2] at hq; cases hq
theorem Ext.ov {R g h' : HP} (e : Ext (ov R g) h') : ov R h' = h' := by
  funext q
  cases e2 : R q with
  | none => rw [ov_n e2]
  | some b => rw [ov_s e2, e q b (ov_s e2)]
theorem Ext.ovr {R g g' : HP} (e : Ext g g') : Ext (_root_.Jvm.Pilot.CBrushSellersLaw_law_r9467_4814b1.ov R g) (_root_.Jvm.Pilot.CBrushSellersLaw_law_r9467_4814b1.ov R g') := fun q b h => by
  cases e2 : R q with
  | none => rw [ov_n e2] at h ⊢; exact e q b h
  | some b' => rw [ov_s e2] at h ⊢; exact h
/-- the least number below n (the greatest, in fact) in dom whose address is q -/
def idx (dom : Nat → Bool) (ad : Nat → Nat) : Nat → Nat → Option Nat
  | 0, _ => none
  | n + 1, q => if dom n = true ∧ ad n = q then some n else idx dom ad n q
theorem idx_some {dom : Nat → Bool} {ad : Nat → Nat} : ∀ {n q k : Nat}, idx dom ad n q = some k → k < n ∧ dom k = true ∧ ad k = q
  | 0, _, _, h => by cases h
  | n + 1, q, k, h => by
    unfold idx at h
    by_cases e : dom n = true ∧ ad n = q
    · rw [if_pos e] at h
      cases h
      exact ⟨Nat.lt_succ_self _, e.1, e.2⟩
    · rw [if_neg e] at h
      obtain ⟨a, b, c⟩ := idx_some h
      exact ⟨Nat.lt_succ_of_lt a, b, c⟩
theorem idx_none {dom : Nat → Bool} {ad : Nat → Nat} : ∀ {n q : Nat}, (∀ k, k < n → dom k = true → ad k ≠ q) → idx dom ad n q = none
  | 0, _, _ => rfl
  | n + 1, q, h => by
    unfold idx
    rw [if_neg (fun e => h n (Nat.lt_succ_self _) e.1 e.2)]
    exact idx_none fun k hk hd => h k (Nat.lt_succ_of_lt hk) hd
theorem idx_no {dom : Nat → Bool} {ad : Nat → Nat} {n q k : Nat} (h : idx dom ad n q = none) (hk : k < n) (hd : dom k = true) : ad k ≠ q := by
  induction n with
  | zero => omega
  | succ n ih =>
    unfold idx at h
    by_cases e : dom n = true ∧ ad n = q
    · rw [if_pos e] at h; cases h
    · rw [if_neg e] at h
      by_cases e2 : k = n
      · subst e2
        exact fun e3 => e ⟨hd, e3⟩
      · exact ih h (by omega)
/-- different places, different addresses -/
def inj (n : Nat) (dom : Nat → Bool) (ad : Nat → Nat) : Prop := ∀ i j, i < n → j < n → dom i = true → dom j = true → ad i = ad j → i = j
theorem idx_of {dom : Nat → Bool} {ad : Nat → Nat} {n k : Nat} (hi : inj n dom ad) (hk : k < n) (hd : dom k = true) : idx dom ad n (ad k) = some k := by
  cases e : idx dom ad n (ad k) with
  | none => exact absurd rfl (idx_no e hk hd)
  | some j =>
    obtain ⟨a, b, c⟩ := idx_some e
    rw [hi j k a hk b hd c]
def fam (n : Nat) (dom : Nat → Bool) (ad : Nat → Nat) (g : Nat → Bd) : HP := fun q => (idx dom ad n q).map g
theorem fam_at {n : Nat} {dom : Nat → Bool} {ad : Nat → Nat} {g : Nat → Bd} (k : Nat) (hi : inj n dom ad) (hk : k < n) (hd : dom k = true) : fam n dom ad g (ad k) = some (g k) := by
  unfold fam
  rw [idx_of hi hk hd]
  rfl
theorem fam_none {n : Nat} {dom : Nat → Bool} {ad : Nat → Nat} {g : Nat → Bd} {q : Nat} (h : ∀ k, k < n → dom k = true → ad k ≠ q) : fam n dom ad g q = none := by
  unfold fam
  rw [idx_none h]
  rfl
theorem fam_no {n : Nat} {dom : Nat → Bool} {ad : Nat → Nat} {g : Nat → Bd} {q k : Nat} (h : fam n dom ad g q = none) (hk : k < n) (hd : dom k = true) : ad k ≠ q := by
  unfold fam at h
  exact idx_no (Option.map_eq_none_iff.mp h) hk hd
theorem fam_in {n : Nat} {dom : Nat → Bool} {ad : Nat → Nat} {g : Nat → Bd} {q : Nat} {b : Bd} (h : fam n dom ad g q = some b) : ∃ k, k < n ∧ dom k = true ∧ ad k = q ∧ b = g k := by
  unfold fam at h
  obtain ⟨k, h1, h2⟩ := Option.map_eq_some_iff.mp h
  obtain ⟨a, c, d⟩ := idx_some h1
  exact ⟨k, a, c, d, h2.symm⟩
theorem fam_cg {n : Nat} {dom : Nat → Bool} {ad : Nat → Nat} {g g' : Nat → Bd} (h : ∀ k, k < n → dom k = true → g k = g' k) : fam n dom ad g = fam n dom ad g' := by
  funext q
  unfold fam
  cases e : idx dom ad n q with
  | none => rfl
  | some k =>
    obtain ⟨a, b, -⟩ := idx_some e
    show some (g k) = some (g' k)
    rw [h k a b]
theorem fam_up {n : Nat} {dom : Nat → Bool} {ad : Nat → Nat} {g g' : Nat → Bd} {b : Bd} (k : Nat) (hi : inj n dom ad) (hk : k < n) (hd : dom k = true) (hb : g' k = b) (ho : ∀ j, j < n → dom j = true → j ≠ k → g' j = g j) : hu (fam n dom ad g) (ad k) b = fam n dom ad g' := by
  funext q
  by_cases e : q = ad k
  · subst e
    rw [hu_s, fam_at k hi hk hd, hb]
  · rw [hu_n e]
    unfold fam
    cases e2 : idx dom ad n q with
    | none => rfl
    | some j =>
      obtain ⟨a, c, d⟩ := idx_some e2
      show some (g j) = some (g' j)
      rw [ho j a c (fun e3 => e (by rw [← d, e3]))]
/-- one cell more, at an address that is new -/
theorem fam_new {n : Nat} {dom dom' : Nat → Bool} {ad ad' : Nat → Nat} {g g' : Nat → Bd} {b : Bd} {q : Nat} (k : Nat) (hk : k < n) (hq : fam n dom ad g q = none) (hd : dom k = false) (hd' : dom' k = true) (ha : ad' k = q) (hb : g' k = b) (ho : ∀ j, j < n → j ≠ k → dom' j = dom j ∧ (dom j = true → ad' j = ad j ∧ g' j = g j)) (hi : inj n dom ad) : hu (fam n dom ad g) q b = fam n dom' ad' g' ∧ inj n dom' ad' := by
  have hno : ∀ j, j < n → dom j = true → ad j ≠ q := fun j h1 h2 => fam_no hq h1 h2
  have key : inj n dom' ad' := by
    intro i j hi' hj' di dj e
    by_cases e1 : i = k
    · by_cases e2 : j = k
      · rw [e1, e2]
      · obtain ⟨o1, o2⟩ := ho j hj' e2
        rw [o1] at dj
        subst e1
        rw [ha, (o2 dj).1] at e
        exact absurd e.symm (hno j hj' dj)
    · obtain ⟨o1, o2⟩ := ho i hi' e1
      rw [o1] at di
      by_cases e2 : j = k
      · subst e2
        rw [ha, (o2 di).1] at e
        exact absurd e (hno i hi' di)
      · obtain ⟨p1, p2⟩ := ho j hj' e2
        rw [p1] at dj
        rw [(o2 di).1, (p2 dj).1] at e
        exact hi i j hi' hj' di dj e
  refine ⟨?_, key⟩
  funext x
  by_cases e : x = q
  · subst e
    rw [hu_s, ← ha, fam_at k key hk hd', hb]
  · rw [hu_n e]
    cases e2 : fam n dom ad g x with
    | none =>
      refine (fam_none fun j hj dj => ?_).symm
      by_cases e3 : j = k
      · subst e3
        rw [ha]
        exact Ne.symm e
      · obtain ⟨o1, o2⟩ := ho j hj e3
        rw [o1] at dj
        rw [(o2 dj).1]
        exact fam_no e2 hj dj
    | some y =>
      obtain ⟨j, hj, dj, aj, rfl⟩ := fam_in e2
      have e3 : j ≠ k := fun e3 => by rw [e3, hd] at dj; cases dj
      obtain ⟨o1, o2⟩ := ho j hj e3
      obtain ⟨p1, p2⟩ := o2 dj
      rw [← aj, ← p1, fam_at j key hj (by rw [o1]; exact dj), p2]
