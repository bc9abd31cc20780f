set_option maxRecDepth 100000
theorem mdE_b {x : Int32} (h : 0 ≤ x.toInt ∧ x.toInt ≤ 10) : 0 ≤ (mdE x).toInt ∧ (mdE x).toInt ≤ 10 := by
  have ex : x = nI (tn x) := by
    rw [i32_eq, nIn (by unfold tn; omega)]
    unfold tn; omega
  have h8 : tn x < 11 := by unfold tn; omega
  rw [ex]
  exact of_decide_eq_true (allB_at (n := 11) (p := fun k => decide (0 ≤ (mdE (nI k)).toInt ∧ (mdE (nI k)).toInt ≤ 10)) (by decide +kernel) (tn x) h8)
theorem tmE_b {x : Int32} (h : 0 ≤ x.toInt ∧ x.toInt ≤ 9) : 0 ≤ (tmE x).toInt ∧ (tmE x).toInt ≤ 9 := by
  have ex : x = nI (tn x) := by
    rw [i32_eq, nIn (by unfold tn; omega)]
    unfold tn; omega
  have h8 : tn x < 10 := by unfold tn; omega
  rw [ex]
  exact of_decide_eq_true (allB_at (n := 10) (p := fun k => decide (0 ≤ (tmE (nI k)).toInt ∧ (tmE (nI k)).toInt ≤ 9)) (by decide +kernel) (tn x) h8)
theorem pass_b {D : Int} {u : Nat → Int32} (hB : Box D u) : ∀ n, n ≤ 20 → Box D (gPassN u n) ∧ ∀ j, (j < 53 ∨ 133 ≤ j) → gPassN u n j = u j := by
  intro n
  induction n with
  | zero => intro _; exact ⟨hB, fun _ _ => rfl⟩
  | succ n ih =>
    intro hn
    obtain ⟨h1, h2⟩ := ih (by omega)
    have t := bx_h h1 (h := n) (k := 0) (by omega) (by omega)
    have t : 0 ≤ (gPassN u n (53 + 4 * n)).toInt ∧ (gPassN u n (53 + 4 * n)).toInt ≤ 9 := t
    have m : 0 ≤ (gPassN u n (53 + 4 * n + 1)).toInt ∧ (gPassN u n (53 + 4 * n + 1)).toInt ≤ 10 := bx_h h1 (h := n) (k := 1) (by omega) (by omega)
    have e : gPassN u (n + 1) = upd (upd (gPassN u n) (53 + 4 * n + 1) (mdE (gPassN u n (53 + 4 * n + 1)))) (53 + 4 * n) (tmE (gPassN u n (53 + 4 * n))) := gPass1_eq t.1 t.2
    rw [e]
    refine ⟨box_h (k := 0) (box_h (k := 1) h1 (by omega) (by omega) (mdE_b m)) (by omega) (by omega) (tmE_b t), fun j hj => ?_⟩
    rw [upd_n (by omega), upd_n (by omega)]
    exact h2 j hj
theorem iv_day {D : Int} {w w' : Nat → Int32} {x : Int32} (hD : D < 100000) (hV : IV D w) (h : oDay w = oK x w') : IV (D + 1) w' ∧ 0 ≤ x.toInt := by
  have hB := hV.1
  have h0 : 0 ≤ (w 0).toInt ∧ (w 0).toInt ≤ D := hB 0
  have e1 : (1 : Int32).toInt = 1 := rfl
  have ea : (w 0 + 1).toInt = (w 0).toInt + 1 := by rw [tA (by omega)]; omega
  obtain ⟨rfl, rfl⟩ := oK_i h
  have hB1 : Box (D + 1) (upd (upd w 0 (w 0 + 1)) 1 0) := box_upd (k := 1) (box_upd (k := 0) (box_m hB (by omega)) ⟨by rw [ea]; show 0 ≤ _; omega, by rw [ea]; show _ ≤ D + 1; omega⟩) (show (0 : Int) ≤ (0 : Int32).toInt ∧ (0 : Int32).toInt ≤ 480 by decide)
  obtain ⟨p1, p2⟩ := pass_b hB1 20 (by omega)
  have rd : ∀ j, j ≠ 0 → j ≠ 1 → (j < 53 ∨ 133 ≤ j) → gDay w j = w j := fun j j0 j1 hj => by
    show gPassN _ 20 j = _
    rw [p2 j hj, upd_n j1, upd_n j0]
  refine ⟨IV_cg hV p1 (rd 2 (by omega) (by omega) (by omega)) (rd 3 (by omega) (by omega) (by omega)) (rd 6 (by omega) (by omega) (by omega)) (rd 7 (by omega) (by omega) (by omega)) (fun s k h4 hk => rd _ (by omega) (by omega) (by omega)) (fun j j1 j2 => rd j (by omega) (by omega) (by omega)), ?_⟩
  have e2 : gDay w 0 = w 0 + 1 := by
    show gPassN _ 20 0 = _
    rw [p2 0 (by omega), upd_n (by omega), upd_s]
  rw [e2, ea]
  omega
theorem iv_m {D : Int} {w : Nat → Int32} (hV : IV D w) : IV (D + 1) w := ⟨box_m hV.1 (by omega), hV.2⟩
theorem pi_holds : PI := by
  intro D w a x w' hD hV h
  obtain ⟨k, p, q, r⟩ := a
  have up : IV D w' ∧ 0 ≤ x.toInt → IV (D + 1) w' ∧ 0 ≤ x.toInt := fun g => ⟨iv_m g.1, g.2⟩
  match k, h with
  | 0, h => exact up (iv_go hV h)
  | 1, h => exact up (iv_ring hV h)
  | 2, h => exact up (iv_pet hV h)
  | 3, h => exact up (iv_take hV h)
  | 4, h => exact up (iv_back hV h)
  | 5, h => exact up (iv_ren hV h)
  | n + 6, h => exact iv_day hD hV h
theorem iv_seller {D : Int} {w w' : Nat → Int32} {y x : Int32} (hV : IV D w) (h : oSeller w y = oK x w') : IV D w' := by
  have hB := hV.1
  have ht4 := tn_lt4 hB
  unfold oSeller at h
  split at h
  case isFalse => exact oCK h
  case isTrue hc =>
    split at h
    case isTrue => exact oRK h
    case isFalse c2 =>
      obtain ⟨rfl, rfl⟩ := oK_i h
      have hy : 0 ≤ y.toInt ∧ y.toInt ≤ 9 := isn_t.mp hc
      have h2 : 0 ≤ (w 2).toInt ∧ (w 2).toInt ≤ 4 := hB 2
      have hn4 : ¬ (w 2).toInt = 4 := fun e => c2 (i32_eq.mpr e)
      have e1 : (1 : Int32).toInt = 1 := rfl
      have ea : (w 2 + 1).toInt = (w 2).toInt + 1 := by rw [tA (by omega)]; omega
      have hN : tn (w 2) < 4 := by have := ht4.2.1; omega
      have hNe := ht4.2.1
      generalize hk : tn (w 2) = k at hN hNe
      have r0 : gNew w y (17 + 9 * k) = y := by rw [gNew, hk, if_pos rfl]
      have rz : ∀ z, 0 < z → z < 9 → gNew w y (17 + 9 * k + z) = 0 := fun z z0 z9 => by rw [gNew, hk, if_neg (by omega), if_pos (by omega)]
      have r2 : gNew w y 2 = w 2 + 1 := by rw [gNew, hk, if_neg (by omega), if_neg (by omega), if_pos rfl]
      have rr : ∀ j, j ≠ 2 → (j < 17 + 9 * k ∨ 17 + 9 * k + 9 ≤ j) → gNew w y j = w j := fun j j2 hj => by rw [gNew, hk, if_neg (by omega), if_neg (by omega), if_neg j2]
      generalize gNew w y = W at r0 rz r2 rr
      have hk1 : tn (W 2) = k + 1 := by rw [r2]; unfold tn; omega
      refine ⟨fun j => ?_, fun i hi => ?_, ⟨?_, ?_⟩, ⟨?_, ?_⟩⟩
      · by_cases a2 : j = 2
        · subst a2; rw [r2]; exact ⟨by rw [ea]; show 0 ≤ _; omega, by rw [ea]; show _ ≤ 4; omega⟩
        by_cases b1 : j < 17 + 9 * k ∨ 17 + 9 * k + 9 ≤ j
        · rw [rr j a2 b1]; exact hB j
        · obtain ⟨z, hz, rfl⟩ : ∃ z, z < 9 ∧ j = 17 + 9 * k + z := ⟨j - (17 + 9 * k), by omega, by omega⟩
          rw [bnd_s hN hz]
          by_cases e : z = 0
          · subst e
            rw [show W (17 + 9 * k + 0) = y from r0]
            exact hy
          · rw [rz z (by omega) hz]
            rcases (show z = 1 ∨ z = 2 ∨ z = 3 ∨ z = 4 ∨ z = 5 ∨ z = 6 ∨ z = 7 ∨ z = 8 by omega) with rfl | rfl | rfl | rfl | rfl | rfl | rfl | rfl <;> exact ⟨by decide, by decide⟩
      · rw [rr 3 (by omega) (by omega)] at hi
        have h3 : 0 ≤ (w 3).toInt ∧ (w 3).toInt ≤ 40 := hB 3
        rw [r2, ea, rr _ (by omega) (by omega), rr _ (by omega) (by omega)]
        have := hV.2.1 i hi
        exact ⟨by omega, this.2⟩
      · rw [hk1, rr 6 (by omega) (by omega), ← hV.2.2.1.1, hk]
        show gSum W 6 k + W (17 + 9 * k + 6) = _
        rw [rz 6 (by omega) (by omega), Int32.add_zero]
        exact gSum_cg fun t ht => rr _ (by omega) (by omega)
      · rw [hk1, rr 7 (by omega) (by omega), ← hV.2.2.1.2, hk]
        show gSum W 7 k + W (17 + 9 * k + 7) = _
        rw [rz 7 (by omega) (by omega), Int32.add_zero]
        exact gSum_cg fun t ht => rr _ (by omega) (by omega)
      · rw [rr 3 (by omega) (by omega), rr 6 (by omega) (by omega), ← hV.2.2.2.1]
        exact (sN_cg ht4.2.2.1 fun j j1 j2 => rr j (by omega) (by omega)).1
      · rw [rr 3 (by omega) (by omega), rr 7 (by omega) (by omega), ← hV.2.2.2.2]
        exact (sN_cg ht4.2.2.1 fun j j1 j2 => rr j (by omega) (by omega)).2
theorem iv_dog {D : Int} {w w' : Nat → Int32} {y z x : Int32} (hV : IV D w) (h : oDog w y z = oK x w') : IV D w' := by
  have hB := hV.1
  unfold oDog at h
  split at h
  case isFalse => exact oCK h
  case isTrue hc =>
    split at h
    case isFalse => exact oCK h
    case isTrue hz =>
      split at h
      case isTrue => exact oRK h
      case isFalse =>
        obtain ⟨-, rfl⟩ := oK_i h
        obtain ⟨hh, -⟩ := isH_x hc
        have hz : 0 ≤ z.toInt ∧ z.toInt ≤ 9 := isn_t.mp hz
        have e1 : (1 : Int32).toInt = 1 := rfl
        have ea : (z + 1).toInt = z.toInt + 1 := by rw [tA (by omega)]; omega
        refine IV_cg hV (box_h (k := 1) hB hh (by omega) ⟨by rw [ea]; show 0 ≤ _; omega, by rw [ea]; show _ ≤ 10; omega⟩) ?_ ?_ ?_ ?_ (fun s2 k h4 hk => ?_) (fun j j1 j2 => ?_)
        all_goals (rw [upd_n (by omega)])
theorem iv_make {D : Int} {w w' : Nat → Int32} {y z x : Int32} (hV : IV D w) (h : oMake w y z = oK x w') : IV D w' := by
  have hB := hV.1
  unfold oMake at h
  split at h
  case isFalse => exact oCK h
  case isTrue hc =>
    split at h
    case isFalse => exact oCK h
    case isTrue hz =>
      split at h
      case isTrue => exact oRK h
      case isFalse c1 =>
        split at h
        case isTrue => exact oRK h
        case isFalse =>
          obtain ⟨-, rfl⟩ := oK_i h
          obtain ⟨hb, -⟩ := isB_x hc
          generalize tn y = b at hb c1
          generalize gCost y z = g
          have hz : 1 ≤ z.toInt ∧ z.toInt ≤ 50 := isn_t.mp hz
          have h2 := bx_d hB hb
          have e200 : (200 : Int32).toInt = 200 := rfl
          have ea : (w (14 + b) + z).toInt = (w (14 + b)).toInt + z.toInt := tA (by omega)
          rw [lt_I, ea] at c1
          have e4 : gSpend w g (14 + b) = w (14 + b) := by rw [gSpend, upd_n (by omega), upd_n (by omega)]
          have hB1 : Box D (gSpend w g) := box_4 (box_4 hB (by omega) (by omega)) (by omega) (by omega)
          refine IV_cg hV (box_4 (box_d hB1 hb (by rw [e4]; omega)) (by omega) (by omega)) ?_ ?_ ?_ ?_ (fun s2 k h4 hk => ?_) (fun j j1 j2 => ?_)
          all_goals (rw [gMake, upd_n (by omega), upd_n (by omega), gSpend, upd_n (by omega), upd_n (by omega)])
theorem iv_dL {os : List Ord1} : ∀ {D : Int} {w w' : Nat → Int32} {n : Nat}, D + os.length < 100000 → IV D w → (dL os w n).2 = some w' → IV (D + os.length) w' := by
  induction os with
  | nil =>
    intro D w w' n hD hV h
    rw [← Option.some.inj h]
    rw [show D + (([] : List Ord1).length : Int) = D by show D + 0 = D; omega]
    exact hV
  | cons a os ih =>
    intro D w w' n hD hV h
    have e1 : ((a :: os).length : Int) = (os.length : Int) + 1 := by rw [List.length_cons]; omega
    have hm : (∃ x w2, dO w a = oK x w2) ∨ ∀ x w2, dO w a ≠ oK x w2 := by
      cases e : dO w a with
      | inl c => exact Or.inr fun x w2 e2 => oC_ne e2
      | inr r =>
        cases r with
        | inl b => exact Or.inr fun x w2 e2 => oR_ne (a := b.1) (b := b.2) e2
        | inr b => exact Or.inl ⟨b.1, b.2, rfl⟩
    rcases hm with ⟨x, w2, hk⟩ | hk
    · rw [dL_k hk] at h
      have := ih (by omega) (pi_holds D w a x w2 (by omega) hV hk).1 h
      rw [show D + ((a :: os).length : Int) = D + 1 + (os.length : Int) by omega]
      exact this
    · rw [dL_n hk] at h
      cases h
theorem iv_run {D : Int} {w w' : Nat → Int32} {T : List Int32} {x : Int32} (hD : D < 90000) (hT : T.length ≤ 60) (hV : IV D w) (h : rnR w T = oK x w') : IV (D + 61) w' := by
  cases e : (pR T (T.length + 1) 0).2 with
  | none => rw [rn_n e] at h; exact oCK h
  | some os =>
    have hl := (pR_7 _ _ _ e).1
    rw [rn_s e] at h
    unfold dR at h
    cases e2 : (dL os w 0).2 with
    | none => rw [e2] at h; exact oRK h
    | some w2 =>
      rw [e2] at h
      obtain ⟨-, rfl⟩ := oK_i h
      have := iv_dL (by omega) hV e2
      exact ⟨box_m this.1 (by omega), this.2⟩
