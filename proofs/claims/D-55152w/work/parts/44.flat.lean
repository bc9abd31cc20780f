set_option maxRecDepth 100000
/-! ===== a company that stands in a heap, told flat ===== -/
def upN (f : Nat → Nat) (k v : Nat) : Nat → Nat := fun j => if j = k then v else f j
theorem upN_s {f : Nat → Nat} {k v : Nat} : upN f k v k = v := if_pos rfl
theorem upN_n {f : Nat → Nat} {k v j : Nat} (h : j ≠ k) : upN f k v j = f j := if_neg h
abbrev St (h : HP) (ad : Nat → Nat) (w : Nat → Int32) : Prop := ∀ k, k < 160 → cdom w k = true → h (ad k) = some (ccell ad w k)
theorem St_cH {ad : Nat → Nat} {w : Nat → Int32} {h : HP} (hi : cI ad w) : St (cH ad w h) ad w := fun k hk hd => ov_s (fam_at k hi hk hd)
theorem St_in {ad : Nat → Nat} {w : Nat → Int32} {h : HP} (hs : St h ad w) {q : Nat} {b : Bd} (hq : cF ad w q = some b) : h q = some b := by
  obtain ⟨k, hk, hd, rfl, rfl⟩ := fam_in hq
  exact hs k hk hd
theorem St_eq {ad : Nat → Nat} {w : Nat → Int32} {h : HP} (hs : St h ad w) : h = cH ad w h := by
  funext q
  cases e : cF ad w q with
  | none => rw [cH, ov_n e]
  | some b => rw [cH, ov_s e, St_in hs e]
theorem St_new {ad : Nat → Nat} {w : Nat → Int32} {h : HP} {q : Nat} {b : Bd} (hs : St h ad w) (hq : h q = none) : St (hu h q b) ad w := fun k hk hd => hu_o hq (hs k hk hd)
theorem St_ext {ad : Nat → Nat} {w : Nat → Int32} {h h' : HP} (hs : St h ad w) (hx : Ext h h') : St h' ad w := fun k hk hd => hx _ _ (hs k hk hd)
theorem St_no {ad : Nat → Nat} {w : Nat → Int32} {h : HP} {q : Nat} (hs : St h ad w) (hq : h q = none) : cF ad w q = none := fam_none fun k hk hd e => by
  have := hs k hk hd
  rw [e, hq] at this
  cases this
/-- what lies beside a company stands -/
abbrev XT (ad : Nat → Nat) (w : Nat → Int32) (h H : HP) : Prop := ∀ (q : Nat) (b : Bd), cF ad w q = none → h q = some b → H q = some b
theorem XT_rf {ad : Nat → Nat} {w w' : Nat → Int32} {h : HP} (e2 : w' 2 = w 2) (e3 : w' 3 = w 3) : XT ad w h (cH ad w' h) := fun q b hq hb => by
  rw [cH, ov_n (cF_no hq e2 e3), hb]
theorem XT_ex {ad : Nat → Nat} {w : Nat → Int32} {h H H' : HP} (hx : XT ad w h H) (he : Ext H H') : XT ad w h H' := fun q b hq hb => he q b (hx q b hq hb)
theorem XT_new {ad : Nat → Nat} {w : Nat → Int32} {h H : HP} {x : Nat} {y : Bd} (hx : XT ad w h H) (hq : H x = none) : XT ad w h (hu H x y) := XT_ex hx (Ext.new hq)
theorem XT_ad {ad : Nat → Nat} {w : Nat → Int32} {h H : HP} {y : Bd} (k : Nat) (hx : XT ad w h H) (hk : k < 160) (hd : cdom w k = true) : XT ad w h (hu H (ad k) y) := fun q b hq hb => by
  rw [hu_n (Ne.symm (fam_no hq hk hd))]
  exact hx q b hq hb
theorem cP_of {ad ad' : Nat → Nat} {w w' : Nat → Int32} {h0 h' : HP} (hi' : cI ad' w') (e0 : ad' 0 = ad 0) (hf : ∀ k, k < 160 → cdom w' k = true → (cdom w k = true ∧ ad' k = ad k) ∨ cH ad w h0 (ad' k) = none) (hm : ∀ k, k < 160 → cdom w k = true → cdom w' k = true ∧ ad' k = ad k) (hs : St h' ad' w') (hx : XT ad w h0 h') : cP ad w h0 w' h' := by
  refine ⟨ad', ov h0 h', hi', e0, hf, hm, fun q b hb => ov_s hb, ?_⟩
  funext q
  cases e : cF ad' w' q with
  | some b => rw [cH, ov_s e, St_in hs e]
  | none =>
    rw [cH, ov_n e]
    cases e2 : h0 q with
    | none => rw [ov_n e2]
    | some b =>
      rw [ov_s e2]
      refine hx q b (fam_none fun k hk hd e3 => ?_) e2
      obtain ⟨d1, d2⟩ := hm k hk hd
      exact fam_no e hk d1 (d2.trans e3)
/-- the places whose addresses a cell names -/
def cuse (w : Nat → Int32) (j i : Nat) : Prop := (j = 0 ∧ (i = 1 ∨ i = 3 ∨ i = 5 ∨ i = 6)) ∨ (j = 1 ∧ i = 2) ∨ (j = 2 ∧ 10 ≤ i ∧ i < 30) ∨ (j = 3 ∧ i = 4) ∨ (j = 4 ∧ 70 ≤ i ∧ i < 70 + tn (w 2)) ∨ (j = 5 ∧ 81 ≤ i ∧ i % 2 = 1 ∧ (i - 81) / 2 < tn (w 3)) ∨ (10 ≤ j ∧ j < 50 ∧ i = j + 20) ∨ (70 ≤ j ∧ j < 74 ∧ i = j + 4) ∨ (81 ≤ j ∧ j % 2 = 1 ∧ (i = j - 1 ∨ (81 ≤ i ∧ i % 2 = 1 ∧ (i - 81) / 2 < tn (w 3))))
theorem fHs_ad {ad ad' : Nat → Nat} {n : Nat} (e : ∀ m, m < n → ad (10 + m) = ad' (10 + m)) : fHs ad n = fHs ad' n := by
  funext j
  unfold fHs
  by_cases h : j < n
  · rw [if_pos h, if_pos h, e j h]
  · rw [if_neg h, if_neg h]
theorem fSs_ad {ad ad' : Nat → Nat} {n : Nat} (e : ∀ m, m < n → ad (70 + m) = ad' (70 + m)) : fSs ad n = fSs ad' n := by
  funext j
  unfold fSs
  by_cases h : j < n
  · rw [if_pos h, if_pos h, e j h]
  · rw [if_neg h, if_neg h]
theorem inx_ad {nd nd' : Nat → Nat} {n j : Nat} (e : ∀ m, m < n → nd m = nd' m) : inx nd n j = inx nd' n j := by
  unfold inx
  by_cases h : j < n
  · rw [if_pos h, if_pos h, e j h]
  · rw [if_neg h, if_neg h]
theorem ipv_ad {nd nd' : Nat → Nat} {n j : Nat} (e : ∀ m, m < n → nd m = nd' m) (hj : j ≤ n) : ipv nd j = ipv nd' j := by
  unfold ipv
  by_cases h : j = 0
  · rw [if_pos h, if_pos h]
  · rw [if_neg h, if_neg h, e (j - 1) (by omega)]
theorem ccell_ad {ad ad' : Nat → Nat} {w : Nat → Int32} {j : Nat} (hj : j < 160) (hd : cdom w j = true) (e : ∀ i, cuse w j i → ad i = ad' i) : ccell ad w j = ccell ad' w j := by
  have hm := cdm_hj hd
  have hde := cdm_e hd
  rcases cds hj hm with h | ⟨k, hk, rfl⟩ | ⟨k, hk, rfl⟩ | ⟨k, hk, rfl⟩ | ⟨k, hk, rfl⟩ | ⟨k, hk, rfl⟩ | ⟨k, hk, rfl⟩ | ⟨k, hk, rfl⟩
  · match j, h, e with
    | 0, _, e => rw [cc_0, cc_0, cCo, cCo, e 1 (by unfold cuse; omega), e 3 (by unfold cuse; omega), e 5 (by unfold cuse; omega), e 6 (by unfold cuse; omega)]
    | 1, _, e => rw [cc_1, cc_1, e 2 (by unfold cuse; omega)]
    | 2, _, e => rw [cc_2, cc_2, fHs_ad (ad' := ad') (fun m hm => e (10 + m) (by unfold cuse; omega))]
    | 3, _, e => rw [cc_3, cc_3, e 4 (by unfold cuse; omega)]
    | 4, _, e => rw [cc_4, cc_4, fSs_ad (ad' := ad') (fun m hm => e (70 + m) (by unfold cuse; omega))]
    | 5, _, e =>
      have en : ∀ m, m < tn (w 3) → nd ad m = nd ad' m := fun m hm => e (81 + 2 * m) (by unfold cuse; omega)
      rw [cc_5, cc_5, bLL, bLL, inx_ad en, ipv_ad en (Nat.le_refl _)]
    | 6, _, _ => rw [cc_6, cc_6]
  · rw [cc_h hk, cc_h hk, cHo, cHo, e (30 + k) (by unfold cuse; omega)]
  · rw [cc_b hk, cc_b hk, bBs, bBs, e (50 + k) (by unfold cuse; omega)]
  · rw [cc_w hk, cc_w hk]
  · rw [cc_s hk, cc_s hk, cSe, cSe, e (74 + k) (by unfold cuse; omega)]
  · rw [cc_r hk, cc_r hk]
  · rw [cc_l hk, cc_l hk]
  · have en : ∀ m, m < tn (w 3) → nd ad m = nd ad' m := fun m hm => e (81 + 2 * m) (by unfold cuse; omega)
    have ei : its ad k = its ad' k := e (80 + 2 * k) (by unfold cuse; omega)
    rw [cc_n hk, cc_n hk, bNd, bNd, ei, inx_ad en, ipv_ad en (by omega)]
theorem ccell_re {ad ad' : Nat → Nat} {w w' : Nat → Int32} {j : Nat} (hj : j < 160) (hd : cdom w j = true) (e : ∀ i, cuse w j i → ad i = ad' i) (e2 : ∀ i, owr i = key j → w i = w' i) : ccell ad w j = ccell ad' w' j := (ccell_ad hj hd e).trans (ccell_cg hj (cdm_hj hd) e2)
theorem s_0 {ad : Nat → Nat} {w : Nat → Int32} {h : HP} (hs : St h ad w) : h (ad 0) = some (cCo ad w) := (hs 0 (by decide) (cdm_i (by omega))).trans (congrArg some cc_0)
theorem s_1 {ad : Nat → Nat} {w : Nat → Int32} {h : HP} (hs : St h ad w) : h (ad 1) = some (bO 10 [.int 20, .ref (ad 2), .int 20]) := (hs 1 (by decide) (cdm_i (by omega))).trans (congrArg some cc_1)
theorem s_2 {ad : Nat → Nat} {w : Nat → Int32} {h : HP} (hs : St h ad w) : h (ad 2) = some (bR 3 20 (fHs ad 20)) := (hs 2 (by decide) (cdm_i (by omega))).trans (congrArg some cc_2)
theorem s_3 {ad : Nat → Nat} {w : Nat → Int32} {h : HP} (hs : St h ad w) : h (ad 3) = some (bO 10 [.int (w 2), .ref (ad 4), .int (w 2)]) := (hs 3 (by decide) (cdm_i (by omega))).trans (congrArg some cc_3)
theorem s_4 {ad : Nat → Nat} {w : Nat → Int32} {h : HP} (hs : St h ad w) : h (ad 4) = some (bR 3 4 (fSs ad (tn (w 2)))) := (hs 4 (by decide) (cdm_i (by omega))).trans (congrArg some cc_4)
theorem s_5 {ad : Nat → Nat} {w : Nat → Int32} {h : HP} (hs : St h ad w) : h (ad 5) = some (bLL (w 3) (w 3) (nd ad) (tn (w 3))) := (hs 5 (by decide) (cdm_i (by omega))).trans (congrArg some cc_5)
theorem s_6 {ad : Nat → Nat} {w : Nat → Int32} {h : HP} (hs : St h ad w) : h (ad 6) = some (bI 0 3 (fDp w)) := (hs 6 (by decide) (cdm_i (by omega))).trans (congrArg some cc_6)
theorem s_h {ad : Nat → Nat} {w : Nat → Int32} {h : HP} (hS : St h ad w) (k : Nat) (hk : k < 20) : h (ad (10 + k)) = some (cHo ad w k) := (hS (10 + k) (by omega) (cdm_i (by omega))).trans (congrArg some (cc_h hk))
theorem s_b {ad : Nat → Nat} {w : Nat → Int32} {h : HP} (hS : St h ad w) (k : Nat) (hk : k < 20) : h (ad (30 + k)) = some (bBs (ad (50 + k)) (w (53 + 4 * k + 3))) := (hS (30 + k) (by omega) (cdm_i (by omega))).trans (congrArg some (cc_b hk))
theorem s_w {ad : Nat → Nat} {w : Nat → Int32} {h : HP} (hS : St h ad w) (k : Nat) (hk : k < 20) : h (ad (50 + k)) = some (bWd (w (53 + 4 * k + 3))) := (hS (50 + k) (by omega) (cdm_i (by omega))).trans (congrArg some (cc_w hk))
theorem s_s {ad : Nat → Nat} {w : Nat → Int32} {h : HP} (hS : St h ad w) (k : Nat) (hk : k < 4) (hs : k < tn (w 2)) : h (ad (70 + k)) = some (cSe ad w k) := (hS (70 + k) (by omega) (cdm_i (by omega))).trans (congrArg some (cc_s hk))
theorem s_r {ad : Nat → Nat} {w : Nat → Int32} {h : HP} (hS : St h ad w) (k : Nat) (hk : k < 4) (hs : k < tn (w 2)) : h (ad (74 + k)) = some (bI 0 3 (fBr w k)) := (hS (74 + k) (by omega) (cdm_i (by omega))).trans (congrArg some (cc_r hk))
theorem s_l {ad : Nat → Nat} {w : Nat → Int32} {h : HP} (hS : St h ad w) (k : Nat) (hk : k < 40) (hs : k < tn (w 3)) : h (ad (80 + 2 * k)) = some (cSa w k) := (hS (80 + 2 * k) (by omega) (cdm_i (by omega))).trans (congrArg some (cc_l hk))
theorem s_n {ad : Nat → Nat} {w : Nat → Int32} {h : HP} (hS : St h ad w) (k : Nat) (hk : k < 40) (hs : k < tn (w 3)) : h (ad (81 + 2 * k)) = some (bNd (nd ad) (its ad) (tn (w 3)) k) := (hS (81 + 2 * k) (by omega) (cdm_i (by omega))).trans (congrArg some (cc_n hk))
theorem ow_ins {s i : Nat} (hs : s < 4) (h1 : 17 + 9 * s ≤ i) (h2 : i < 17 + 9 * s + 9) : owr i = 70 + s ∨ owr i = 74 + s := by
  obtain ⟨m, rfl⟩ : ∃ m, i = 17 + 9 * s + m := ⟨i - (17 + 9 * s), by omega⟩
  by_cases hm : m < 3 ∨ (6 ≤ m ∧ m < 9)
  · exact Or.inl (ow_s m hs hm)
  · obtain ⟨b, rfl⟩ : ∃ b, m = 3 + b := ⟨m - 3, by omega⟩
    exact Or.inr (ow_r b hs (by omega))
theorem add_seller {H : HP} {ad : Nat → Nat} {w w' : Nat → Int32} {qa qb s : Nat} (hi : cI ad w) (hS : St H ad w) (hs : tn (w 2) = s) (hs4 : s < 4) (hs' : tn (w' 2) = s + 1) (e2 : w' 2 = w 2 + 1) (e3 : w' 3 = w 3) (na : cF ad w qa = none) (nb : cF ad w qb = none) (hab : qa ≠ qb) (eo : ∀ i, i ≠ 2 → ¬ (17 + 9 * s ≤ i ∧ i < 17 + 9 * s + 9) → w' i = w i) (hX : H qa = some (bO 4 [.int (w' (17 + 9 * s)), .int (w' (17 + 9 * s + 1)), .int (w' (17 + 9 * s + 2)), .ref qb, .int (w' (17 + 9 * s + 6)), .int (w' (17 + 9 * s + 7)), .int (w' (17 + 9 * s + 8))])) (hY : H qb = some (bI 0 3 (fBr w' s))) : ∃ ad' : Nat → Nat, (∀ k, k ≠ 70 + s → k ≠ 74 + s → ad' k = ad k) ∧ ad' (70 + s) = qa ∧ ad' (74 + s) = qb ∧ cI ad' w' ∧ St (hu (hu H (ad 4) (bR 3 4 (va_up (fSs ad (tn (w 2))) s (some qa)))) (ad 3) (bO 10 [.int (w 2 + 1), .ref (ad 4), .int (w 2 + 1)])) ad' w' := by
  have hdd : ∀ k, cdom w' k = true → k ≠ 70 + s → k ≠ 74 + s → cdom w k = true := fun k h h1 h2 => cdm_i (by
    have := cdm_e h
    rw [hs', e3] at this
    rw [hs]
    omega)
  have d3 : cdom w 3 = true := cdm_i (by omega)
  have d4 : cdom w 4 = true := cdm_i (by omega)
  have nak : ∀ k, k < 160 → cdom w k = true → ad k ≠ qa := fun k hk hd => fam_no na hk hd
  have nbk : ∀ k, k < 160 → cdom w k = true → ad k ≠ qb := fun k hk hd => fam_no nb hk hd
  generalize hA : upN (upN ad (70 + s) qa) (74 + s) qb = ad'
  have ea : ∀ k, k ≠ 70 + s → k ≠ 74 + s → ad' k = ad k := fun k h1 h2 => by rw [← hA, upN_n h2, upN_n h1]
  have e70 : ad' (70 + s) = qa := by rw [← hA, upN_n (by omega), upN_s]
  have e74 : ad' (74 + s) = qb := by rw [← hA, upN_s]
  have hi' : cI ad' w' := by
    intro i j hi1 hj1 di dj e
    by_cases i1 : i = 70 + s
    · subst i1
      by_cases j1 : j = 70 + s
      · exact j1.symm
      · by_cases j2 : j = 74 + s
        · subst j2; rw [e70, e74] at e; exact absurd e hab
        · rw [e70, ea j j1 j2] at e; exact absurd e.symm (nak j hj1 (hdd j dj j1 j2))
    · by_cases i2 : i = 74 + s
      · subst i2
        by_cases j1 : j = 70 + s
        · subst j1; rw [e70, e74] at e; exact absurd e.symm hab
        · by_cases j2 : j = 74 + s
          · exact j2.symm
          · rw [e74, ea j j1 j2] at e; exact absurd e.symm (nbk j hj1 (hdd j dj j1 j2))
      · by_cases j1 : j = 70 + s
        · subst j1; rw [e70, ea i i1 i2] at e; exact absurd e (nak i hi1 (hdd i di i1 i2))
        · by_cases j2 : j = 74 + s
          · subst j2; rw [e74, ea i i1 i2] at e; exact absurd e (nbk i hi1 (hdd i di i1 i2))
          · rw [ea i i1 i2, ea j j1 j2] at e; exact hi i j hi1 hj1 (hdd i di i1 i2) (hdd j dj j1 j2) e
  refine ⟨ad', ea, e70, e74, hi', fun k hk hd => ?_⟩
  by_cases k1 : k = 70 + s
  · subst k1
    rw [e70, hu_n (Ne.symm (nak 3 (by decide) d3)), hu_n (Ne.symm (nak 4 (by decide) d4)), hX, cc_s hs4, cSe, e74]
  · by_cases k2 : k = 74 + s
    · subst k2
      rw [e74, hu_n (Ne.symm (nbk 3 (by decide) d3)), hu_n (Ne.symm (nbk 4 (by decide) d4)), hY, cc_r hs4]
    · have dk := hdd k hd k1 k2
      rw [ea k k1 k2]
      by_cases k3 : k = 3
      · subst k3
        rw [hu_s, cc_3, ea 4 (by omega) (by omega), e2]
      · rw [hu_n (fun e => k3 (hi k 3 hk (by decide) dk d3 e))]
        by_cases k4 : k = 4
        · subst k4
          rw [hu_s, cc_4, hs', hs]
          congr 1
          congr 1
          congr 1
          congr 1
          congr 1
          congr 1
          funext j
          by_cases j1 : j = s
          · subst j1
            rw [va_up_s, fSs_at (Nat.lt_succ_self _), e70]
          · rw [va_up_n j1]
            unfold fSs
            by_cases j2 : j < s
            · rw [if_pos j2, if_pos (by omega), ea (70 + j) (by omega) (by omega)]
            · rw [if_neg j2, if_neg (by omega)]
        · rw [hu_n (fun e => k4 (hi k 4 hk (by decide) dk d4 e)), hS k hk dk]
          refine congrArg some (ccell_re hk dk (fun i hu => (ea i ?_ ?_).symm) (fun i ho => (eo i ?_ ?_).symm))
          · rintro rfl
            unfold cuse at hu
            omega
          · rintro rfl
            unfold cuse at hu
            omega
          · rintro rfl
            have e9 : owr 2 = 3 := rfl
            rw [e9] at ho
            unfold key at ho
            (repeat' split at ho) <;> omega
          · rintro ⟨a1, a2⟩
            rcases ow_ins hs4 a1 a2 with e9 | e9
            · rw [e9] at ho
              exact k1 (key_i (by omega) ho)
            · rw [e9] at ho
              exact k2 (key_i (by omega) ho)
theorem gNew_o {w : Nat → Int32} {c : Int32} {i : Nat} (h2 : i ≠ 2) (h : ¬ (17 + 9 * tn (w 2) ≤ i ∧ i < 17 + 9 * tn (w 2) + 9)) : gNew w c i = w i := by
  unfold gNew
  rw [if_neg (by omega), if_neg h, if_neg h2]
theorem gNew_2 {w : Nat → Int32} {c : Int32} : gNew w c 2 = w 2 + 1 := by
  unfold gNew
  rw [if_neg (by omega), if_neg (by omega), if_pos rfl]
theorem gNew_c {w : Nat → Int32} {c : Int32} : gNew w c (17 + 9 * tn (w 2)) = c := if_pos rfl
theorem gNew_z {w : Nat → Int32} {c : Int32} (m : Nat) (h0 : 0 < m) (h9 : m < 9) : gNew w c (17 + 9 * tn (w 2) + m) = 0 := by
  unfold gNew
  rw [if_neg (by omega), if_pos (by omega)]
theorem fBr_z {W : Nat → Int32} {s : Nat} (z : ∀ m, 0 < m → m < 9 → W (17 + 9 * s + m) = 0) : (fun _ => 0) = fBr W s := by
  funext j
  unfold fBr
  by_cases hj : j < 3
  · rw [if_pos hj, z (3 + j) (by omega) (by omega)]
  · rw [if_neg hj]
theorem tn_s {x : Int32} {s : Nat} (h : x.toInt = (s : Int)) (hs : s < 1000) : tn (x + 1) = s + 1 := by
  unfold tn
  rw [tI_add]
  simp only [Int32.reduceToInt]
  rw [if_pos (by omega)]
  omega
theorem tn_e {x : Int32} {s : Nat} (h : x.toInt = (s : Int)) : tn x = s := by
  unfold tn
  omega
set_option maxHeartbeats 4000000 in
set_option maxRecDepth 100000 in
theorem sp_X1_comes {G : GG} {h : HP} {ad : Nat → Nat} {w : Nat → Int32} (hi : cI ad w) (hK : KS G) {y : Int32} (hY : isn y 0 9 = true) (s : Nat) (hw2 : (w 2).toInt = (s : Int)) (hs4 : s ≤ 4) : Ct G 6 23 M_X1_comes [.ref (ad 0), .int y] (cH ad w h) (oQ ad w h (oSeller w y)) := by
  refine ct_intro my_X1_comes (Nat.le_of_ble_eq_true rfl) ?_
  have hs : tn (w 2) = s := tn_e hw2
  first | refine r_aload_n dX1_comes_0 rfl ?_ | refine r_aload_nq dX1_comes_0 rfl ?_ | refine r_aload_nN dX1_comes_0 rfl ?_
  refine r_getfield 1 1 dX1_comes_1 rfl (Nat.le_of_ble_eq_true rfl) (lkA q298) (Or.inl rfl) (Or.inl (by first | exact c_0 hi | exact c_1 hi | exact c_2 hi | exact c_3 hi | exact c_4 hi | exact c_5 hi | exact c_6 hi)) (by rfl) ?_
  refine r_invV dX1_comes_4 (sp_J2_size (c_3 hi)) rfl mo_J2_size (Or.inl (c_3 hi)) rfl (lkA q1050) (lkA q530) (lkA q2242) rfl (lkA q68) mp_J2_size (Nat.le_of_ble_eq_true rfl) (Nat.le_of_ble_eq_true rfl) (Nat.le_of_ble_eq_true rfl) (kr_e ?_) kx_e
  refine r_iconst (v := 4) dX1_comes_7 rfl ?_
  refine r_icmp_ne 15 dX1_comes_8 rfl (fun c8 => ?_) (fun c8 => ?_)
  · refine r_iconst (v := 0) dX1_comes_15 rfl ?_
    refine r_iconst (v := 1) dX1_comes_16 rfl ?_
    refine r_iconst (v := 4) dX1_comes_17 rfl ?_
    refine r_invSN dX1_comes_18 (sp_X0_refuse0) rfl mo_X0_refuse (lkT q1051 rfl) (lkA q1052) rfl (lkA q64) mp_X0_refuse (Nat.le_of_ble_eq_true rfl) (Nat.le_of_ble_eq_true rfl) (Nat.le_of_ble_eq_true rfl) (kr_e ?_) kx_e
    have hs4 : s < 4 := by
      have : (w 2).toInt ≠ 4 := fun e => c8 (i32_eq.mpr e)
      omega
    first | refine r_aload_n dX1_comes_21 rfl ?_ | refine r_aload_nq dX1_comes_21 rfl ?_ | refine r_aload_nN dX1_comes_21 rfl ?_
    refine r_getfield 1 1 dX1_comes_22 rfl (Nat.le_of_ble_eq_true rfl) (lkA q298) (Or.inl rfl) (Or.inl (by first | exact c_0 hi | exact c_1 hi | exact c_2 hi | exact c_3 hi | exact c_4 hi | exact c_5 hi | exact c_6 hi)) (by rfl) ?_
    refine r_new 4 [.int 0, .int 0, .int 0, .null, .int 0, .int 0, .int 0] dX1_comes_25 rfl (lkA q862) (lkA q868) (lkA q91) (fun j hj => match j, hj with | 0, _ => rfl | 1, _ => rfl | 2, _ => rfl | 3, _ => rfl | 4, _ => rfl | 5, _ => rfl | 6, _ => rfl | k + 7, hk => absurd hk (Nat.not_lt.mpr (Nat.le_add_left 7 k))) (Nat.le_of_ble_eq_true rfl) (fun q25 hq25 => ?_)
    refine r_dup dX1_comes_28 rfl ?_
    refine r_iload_n dX1_comes_29 rfl ?_
    refine r_invI dX1_comes_30 (sp_X4_init hu_s) rfl mo_X4_init (lkA q1081) (lkA q870) rfl rfl rfl (lkA q91) mp_X4_init (Nat.le_of_ble_eq_true rfl) (Nat.le_of_ble_eq_true rfl) (Nat.le_of_ble_eq_true rfl) (kr_r (fun v9 h9 p9 => ?_)) kx_r
    obtain ⟨rfl, k, hk, rfl⟩ := p9
    have hkq : k ≠ q25 := (ov_none_hu hk).1
    have hk0 : cH ad w h k = none := (ov_none_hu hk).2
    rw [hu_c (Ne.symm hkq), hu_hu]
    have hqk : hu (cH ad w h) k (bI 0 3 (fun _ => 0)) q25 = none := (hu_n (Ne.symm hkq)).trans hq25
    have S1 : St (hu (hu (cH ad w h) k (bI 0 3 (fun _ => 0))) q25 (bO 4 [.int y, .int 0, .int 0, .ref k, .int 0, .int 0, .int 0])) ad w := St_new (St_new (St_cH hi) hk0) hqk
    have x1 : XT ad w h (hu (hu (cH ad w h) k (bI 0 3 (fun _ => 0))) q25 (bO 4 [.int y, .int 0, .int 0, .ref k, .int 0, .int 0, .int 0])) := XT_new (XT_new (XT_rf rfl rfl) hk0) hqk
    have e3q : q25 ≠ ad 3 := Ne.symm (ne_o hq25 (c_3 hi))
    have z : ∀ m, 0 < m → m < 9 → gNew w y (17 + 9 * s + m) = 0 := fun m h0 h9 => by rw [← hs]; exact gNew_z m h0 h9
    refine r_invV dX1_comes_33 (sp_J2_add (s_3 S1) (s_4 S1) hw2 hs4 (by decide) hu_s rfl (Or.inr (lkT q2263 rfl)) e3q) rfl mo_J2_add (Or.inl (s_3 S1)) rfl (lkA q226) (lkA q227) (lkA q228) rfl (lkA q68) mp_J2_add (Nat.le_of_ble_eq_true rfl) (Nat.le_of_ble_eq_true rfl) (Nat.le_of_ble_eq_true rfl) (kr_e ?_) kx_e
    obtain ⟨ad', ea, e70, e74, i2, S2⟩ := add_seller (w' := gNew w y) (qa := q25) (qb := k) hi S1 hs hs4 (by rw [gNew_2]; exact tn_s hw2 (by omega)) gNew_2 (gNew_o (by omega) (by omega)) (St_no (St_cH hi) hq25) (St_no (St_cH hi) hk0) (Ne.symm hkq) (fun i h2 h => gNew_o h2 (by rw [hs]; exact h)) (by rw [hu_s, z 1 (by decide) (by decide), z 2 (by decide) (by decide), z 6 (by decide) (by decide), z 7 (by decide) (by decide), z 8 (by decide) (by decide), show gNew w y (17 + 9 * s) = y from by rw [← hs]; exact gNew_c]) (by rw [hu_n hkq, hu_s]; exact congrArg (fun z => some (bI 0 3 z)) (fBr_z z))
    have a0 : ad' 0 = ad 0 := ea 0 (by omega) (by omega)
    have a3 : ad' 3 = ad 3 := ea 3 (by omega) (by omega)
    have S20 := s_0 S2
    have S23 := s_3 S2
    rw [a0, cCo, a3] at S20
    rw [a3] at S23
    refine r_pop dX1_comes_36 rfl ?_
    first | refine r_aload_n dX1_comes_37 rfl ?_ | refine r_aload_nq dX1_comes_37 rfl ?_ | refine r_aload_nN dX1_comes_37 rfl ?_
    refine r_getfield 1 1 dX1_comes_38 rfl (Nat.le_of_ble_eq_true rfl) (lkA q298) (Or.inl rfl) (Or.inl S20) (by rfl) ?_
    refine r_invV dX1_comes_41 (sp_J2_size S23) rfl mo_J2_size (Or.inl S23) rfl (lkA q1050) (lkA q530) (lkA q2242) rfl (lkA q68) mp_J2_size (Nat.le_of_ble_eq_true rfl) (Nat.le_of_ble_eq_true rfl) (Nat.le_of_ble_eq_true rfl) (kr_e ?_) kx_e
    refine r_iconst (v := 1) dX1_comes_44 rfl ?_
    refine r_isub dX1_comes_45 ?_
    exact r_ireturn dX1_comes_46 rfl (by first | rfl | exact bi_nar) (by
  rw [show oSeller w y = oK (w 2) (gNew w y) by unfold oSeller; rw [if_pos hY, if_neg c8]]
  refine ⟨congrArg (fun z => some (Value.int z)) (by rw [gNew_2]; exact Int32.add_sub_cancel _ _), cP_of i2 a0 (fun k' hk' hd => ?_) (fun k' hk' hd => ?_) S2 (XT_ad 3 (XT_ad 4 x1 (by decide) (cdm_i (by omega))) (by decide) (cdm_i (by omega)))⟩
  · by_cases k1 : k' = 70 + s
    · rw [k1, e70]; exact Or.inr hq25
    · by_cases k2 : k' = 74 + s
      · rw [k2, e74]; exact Or.inr hk0
      · refine Or.inl ⟨cdm_i ?_, ea k' k1 k2⟩
        have h9 := cdm_e hd
        dsimp only at h9
        rw [gNew_2, tn_s hw2 (by omega), gNew_o (by omega) (by omega)] at h9
        rw [hs]
        omega
  · have h9 := cdm_e hd
    rw [hs] at h9
    refine ⟨cdm_i ?_, ea k' (by omega) (by omega)⟩
    dsimp only
    rw [gNew_2, tn_s hw2 (by omega), gNew_o (by omega) (by omega)]
    omega)
  · refine r_iconst (v := 1) dX1_comes_11 rfl ?_
    refine r_goto 16 dX1_comes_12 rfl ?_
    refine r_iconst (v := 1) dX1_comes_16 rfl ?_
    refine r_iconst (v := 4) dX1_comes_17 rfl ?_
    refine r_invSN dX1_comes_18 (sp_X0_refuse1 hK) rfl mo_X0_refuse (lkT q1051 rfl) (lkA q1052) rfl (lkA q64) mp_X0_refuse (Nat.le_of_ble_eq_true rfl) (Nat.le_of_ble_eq_true rfl) (Nat.le_of_ble_eq_true rfl) (fun v9 h9 p9 => ?_) (fun q9 h9 ci9 fs9 p9 hq9 => (by obtain ⟨e2, rfl⟩ := p9; refine r_out hq9 rfl ?_; rw [show oSeller w y = oR 1 4 by unfold oSeller; rw [if_pos hY, if_pos c8]]; exact oQ_ref Ext.rf e2))
    exact p9.elim

