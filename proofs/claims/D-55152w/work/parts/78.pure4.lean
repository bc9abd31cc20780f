set_option maxRecDepth 100000
theorem sN_o {w w' : Nat → Int32} {n : Nat} (h : ∀ i, i < n → w' (133 + 7 * i + 3) = w (133 + 7 * i + 3)) : sN w' n = sN w n := by
  induction n with
  | zero => rfl
  | succ n ih =>
    show sN w' n + w' (133 + 7 * n + 3) = sN w n + w (133 + 7 * n + 3)
    rw [ih (fun i hi => h i (by omega)), h n (by omega)]
theorem sK_up {w w' : Nat → Int32} {n m : Nat} (hm : m < n) (h3 : ∀ i, i < n → w' (133 + 7 * i + 3) = w (133 + 7 * i + 3)) (h6 : ∀ i, i < n → i ≠ m → w' (133 + 7 * i + 6) = w (133 + 7 * i + 6)) (h0 : ¬ w (133 + 7 * m + 6) = 1) (h1 : w' (133 + 7 * m + 6) = 1) : sK w' n = sK w n + w (133 + 7 * m + 3) := by
  induction n with
  | zero => exact absurd hm (Nat.not_lt_zero m)
  | succ n ih =>
    show sK w' n + (if w' (133 + 7 * n + 6) = 1 then w' (133 + 7 * n + 3) else 0) = sK w n + (if w (133 + 7 * n + 6) = 1 then w (133 + 7 * n + 3) else 0) + w (133 + 7 * m + 3)
    by_cases e : m = n
    · subst e
      have : ∀ k, k ≤ m → sK w' k = sK w k := by
        intro k hk
        induction k with
        | zero => rfl
        | succ k ihk =>
          show sK w' k + (if w' (133 + 7 * k + 6) = 1 then w' (133 + 7 * k + 3) else 0) = sK w k + (if w (133 + 7 * k + 6) = 1 then w (133 + 7 * k + 3) else 0)
          rw [ihk (by omega), h6 k (by omega) (by omega), h3 k (by omega)]
      rw [this m (Nat.le_refl m), if_pos h1, if_neg h0, h3 m (by omega), Int32.add_zero]
    · rw [ih (by omega) (fun i hi => h3 i (by omega)) (fun i hi hne => h6 i (by omega) hne), h6 n (by omega) (fun e2 => e e2.symm), h3 n (by omega), Int32.add_assoc, Int32.add_assoc, Int32.add_comm (w (133 + 7 * m + 3))]
theorem back_rd {w : Nat → Int32} {m s h b : Nat} (hs : s < 4) (hh : h < 20) (hb : b < 3) (hm : m < 40) : ∀ W, W = gBack w m s h b → (W (17 + 9 * s + (3 + b)) = w (17 + 9 * s + (3 + b)) + imin (w (133 + 7 * m + 3)) (12 - w (17 + 9 * s + (3 + b))) ∧ W (17 + 9 * s + 7) = w (17 + 9 * s + 7) + w (133 + 7 * m + 3)) ∧ (W 7 = w 7 + w (133 + 7 * m + 3) ∧ W (53 + 4 * h) = imax 0 (imin 9 (w (53 + 4 * h) + 2)) ∧ W (133 + 7 * m + 6) = 1) ∧ ∀ j, j ≠ 4 → j ≠ 7 → j ≠ 8 → j ≠ 10 → j ≠ 53 + 4 * h → j ≠ 17 + 9 * s + (3 + b) → j ≠ 17 + 9 * s + 7 → j ≠ 133 + 7 * m + 6 → W j = w j := by
  intro W e0
  unfold gBack gCalm gTm gSa gSl at e0
  dsimp only at e0
  refine ⟨⟨?_, ?_⟩, ⟨?_, ?_, ?_⟩, fun j a1 a2 a3 a4 a5 a6 a7 a8 => ?_⟩
  all_goals (rw [e0])
  · (repeat rw [upd_n (by omega)]); rw [upd_s]
  · (repeat rw [upd_n (by omega)]); rw [upd_s]; (repeat rw [upd_n (by omega)])
  · (repeat rw [upd_n (by omega)]); rw [upd_s]; (repeat rw [upd_n (by omega)])
  · (repeat rw [upd_n (by omega)]); rw [upd_s]; (repeat rw [upd_n (by omega)])
  · rw [upd_s]
  · repeat rw [upd_n (by omega)]
theorem isL_x {D : Int} {w : Nat → Int32} (hB : Box D w) {x : Int32} (h : isL w x = true) : tn x < 40 ∧ (tn x : Int) < (w 3).toInt := by
  obtain ⟨h1, h2⟩ := isn_t.mp h
  have h3 : 0 ≤ (w 3).toInt ∧ (w 3).toInt ≤ 40 := hB 3
  have e0 : (0 : Int32).toInt = 0 := rfl
  have e1 : (1 : Int32).toInt = 1 := rfl
  rw [tSb (by omega)] at h2
  unfold tn
  omega
theorem iv_back {D : Int} {w w' : Nat → Int32} {a x : Int32} (hV : IV D w) (h : oBack w a = oK x w') : IV D w' ∧ 0 ≤ x.toInt := by
  have hB := hV.1
  have ht4 := tn_lt4 hB
  unfold oBack at h
  split at h
  case isFalse => exact oCK h
  case isTrue hc =>
    obtain ⟨hm, hmw⟩ := isL_x hB hc
    generalize tn a = m at hm hmw h
    have f0 : 0 ≤ (gSa w m 0).toInt ∧ (gSa w m 0).toInt ≤ 3 := bx_l hB (k := 0) hm (by omega)
    have f1 : 0 ≤ (gSa w m 1).toInt ∧ (gSa w m 1).toInt ≤ 19 := bx_l hB (k := 1) hm (by omega)
    have f2 : 0 ≤ (gSa w m 2).toInt ∧ (gSa w m 2).toInt ≤ 2 := bx_l hB (k := 2) hm (by omega)
    have f3 : 0 ≤ (w (133 + 7 * m + 3)).toInt ∧ (w (133 + 7 * m + 3)).toInt ≤ 4 := bx_l hB (k := 3) hm (by omega)
    have f4 : 0 ≤ (w (133 + 7 * m + 4)).toInt ∧ (w (133 + 7 * m + 4)).toInt ≤ 20 := bx_l hB (k := 4) hm (by omega)
    have hsl := (hV.2.1 m hmw).1
    have hs : tn (gSa w m 0) < 4 ∧ tn (gSa w m 0) < tn (w 2) := by
      have h9 : (gSa w m 0).toInt < (w 2).toInt := hsl
      have e : (gSa w m 0).toInt = (tn (gSa w m 0) : Int) := tn_0e f0.1
      have := ht4.2.1
      omega
    have hh : tn (gSa w m 1) < 20 := (tn_g f1).2
    have hb : tn (gSa w m 2) < 3 := by
      have e : (gSa w m 2).toInt = (tn (gSa w m 2) : Int) := tn_0e f2.1
      omega
    generalize tn (gSa w m 0) = s at hs h
    generalize tn (gSa w m 1) = k at hh h
    generalize tn (gSa w m 2) = b at hb h
    unfold gBackR at h
    split at h
    case isTrue => exact oRK h
    case isFalse c1 =>
      split at h
      case isFalse => exact oRK h
      case isTrue =>
        split at h
        case isTrue => exact oRK h
        case isFalse =>
          split at h
          case isTrue => exact oRK h
          case isFalse =>
            obtain ⟨rfl, rfl⟩ := oK_i h
            clear h
            have rd := back_rd (w := w) hs.1 hh hb hm
            generalize hW : gBack w m s k b = W
            obtain ⟨⟨rs, r7s⟩, ⟨r7, rt, r6⟩, rr⟩ := rd W hW.symm
            clear rd hW
            have hbr := bx_b hB hs.1 hb
            have e12 : (12 : Int32).toInt = 12 := rfl
            have hf : 0 ≤ (imin (w (133 + 7 * m + 3)) (12 - w (17 + 9 * s + (3 + b)))).toInt ∧ (imin (w (133 + 7 * m + 3)) (12 - w (17 + 9 * s + (3 + b)))).toInt ≤ 12 - (w (17 + 9 * s + (3 + b))).toInt := by
              have ed : (12 - w (17 + 9 * s + (3 + b))).toInt = 12 - (w (17 + 9 * s + (3 + b))).toInt := tSb (by omega)
              unfold imin
              by_cases e : 12 - w (17 + 9 * s + (3 + b)) < w (133 + 7 * m + 3)
              · rw [if_pos e, ed]; omega
              · rw [if_neg e]; rw [lt_I, ed] at e; omega
            have hnp : 0 ≤ (gSa w m 3 * gSa w m 4).toInt := by
              have e3 : (gSa w m 3).toInt = (w (133 + 7 * m + 3)).toInt := rfl
              have e4 : (gSa w m 4).toInt = (w (133 + 7 * m + 4)).toInt := rfl
              have hpr : 0 ≤ (gSa w m 3).toInt * (gSa w m 4).toInt ∧ (gSa w m 3).toInt * (gSa w m 4).toInt ≤ 80 := by
                rw [e3, e4]
                rcases (show (w (133 + 7 * m + 3)).toInt = 0 ∨ (w (133 + 7 * m + 3)).toInt = 1 ∨ (w (133 + 7 * m + 3)).toInt = 2 ∨ (w (133 + 7 * m + 3)).toInt = 3 ∨ (w (133 + 7 * m + 3)).toInt = 4 by omega) with e | e | e | e | e <;> rw [e] <;> omega
              rw [tMl (by omega)]
              exact hpr.1
            have W2 : W 2 = w 2 := rr 2 (by omega) (by omega) (by omega) (by omega) (by omega) (by omega) (by omega) (by omega)
            have W3 : W 3 = w 3 := rr 3 (by omega) (by omega) (by omega) (by omega) (by omega) (by omega) (by omega) (by omega)
            have W6 : W 6 = w 6 := rr 6 (by omega) (by omega) (by omega) (by omega) (by omega) (by omega) (by omega) (by omega)
            refine ⟨⟨fun j => ?_, fun i hi => ?_, ⟨?_, ?_⟩, ⟨?_, ?_⟩⟩, hnp⟩
            · by_cases a4 : 4 ≤ j ∧ j < 14
              · have : bnd D j = (-2147483648, 2147483647) := by
                  unfold bnd
                  rw [if_neg (by omega), if_neg (by omega), if_neg (by omega), if_neg (by omega), if_pos a4.2]
                rw [this]; exact free_b _
              by_cases a5 : j = 53 + 4 * k
              · subst a5; rw [rt, show bnd D (53 + 4 * k) = hbd 0 from bnd_h (k := 0) hh (by omega)]; exact calm_b
              by_cases a8 : j = 17 + 9 * s + (3 + b)
              · subst a8
                rw [rs, bnd_s hs.1 (by omega)]
                have : 0 ≤ (w (17 + 9 * s + (3 + b)) + imin (w (133 + 7 * m + 3)) (12 - w (17 + 9 * s + (3 + b)))).toInt ∧ (w (17 + 9 * s + (3 + b)) + imin (w (133 + 7 * m + 3)) (12 - w (17 + 9 * s + (3 + b)))).toInt ≤ 12 := by rw [tA (by omega)]; omega
                rcases (show b = 0 ∨ b = 1 ∨ b = 2 by omega) with rfl | rfl | rfl <;> exact this
              by_cases a9 : j = 17 + 9 * s + 7
              · subst a9; rw [bnd_s hs.1 (by omega)]; exact free_b _
              by_cases b1 : j = 133 + 7 * m + 6
              · subst b1; rw [r6, bnd_l hm (by omega)]; show (0 : Int) ≤ _ ∧ _ ≤ 1; decide
              · rw [rr j (by omega) (by omega) (by omega) (by omega) a5 a8 a9 b1]; exact hB j
            · rw [W3] at hi
              rw [W2, rr (133 + 7 * i) (by omega) (by omega) (by omega) (by omega) (by omega) (by omega) (by omega) (by omega), rr (133 + 7 * i + 4) (by omega) (by omega) (by omega) (by omega) (by omega) (by omega) (by omega) (by omega)]
              exact hV.2.1 i hi
            · rw [W2, W6, ← hV.2.2.1.1]
              exact gSum_cg fun t ht => rr _ (by omega) (by omega) (by omega) (by omega) (by omega) (by omega) (by omega) (by omega)
            · rw [W2, r7, ← hV.2.2.1.2]
              exact gSum_up hs.2 (fun t ht hts => rr _ (by omega) (by omega) (by omega) (by omega) (by omega) (by omega) (by omega) (by omega)) r7s
            · rw [W3, W6, ← hV.2.2.2.1]
              exact sN_o fun i hi => rr _ (by omega) (by omega) (by omega) (by omega) (by omega) (by omega) (by omega) (by omega)
            · rw [W3, r7, ← hV.2.2.2.2]
              exact sK_up (by have := ht4.2.2.2; omega) (fun i hi => rr _ (by omega) (by omega) (by omega) (by omega) (by omega) (by omega) (by omega) (by omega)) (fun i hi hne => rr _ (by omega) (by omega) (by omega) (by omega) (by omega) (by omega) (by omega) (by omega)) c1 r6
