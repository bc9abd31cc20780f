set_option maxRecDepth 100000
theorem iv_mean {D : Int} {w : Nat → Int32} (hV : IV D w) : vf_n64 (oMean w) := by
  have hs : ∀ n, n ≤ 20 → 0 ≤ (gTemps w n).toInt ∧ (gTemps w n).toInt ≤ 9 * (n : Int) := by
    intro n
    induction n with
    | zero => intro _; show (0 : Int) ≤ (0 : Int32).toInt ∧ (0 : Int32).toInt ≤ 9 * ((0 : Nat) : Int); decide
    | succ n ih =>
      intro hn
      have h1 := ih (by omega)
      have h2 : 0 ≤ (w (53 + 4 * n)).toInt ∧ (w (53 + 4 * n)).toInt ≤ 9 := bx_h hV.1 (h := n) (k := 0) (by omega) (by omega)
      have e : (gTemps w (n + 1)).toInt = (gTemps w n).toInt + (w (53 + 4 * n)).toInt := tA (by omega)
      rw [e]
      omega
  have h20 := hs 20 (Nat.le_refl 20)
  unfold oMean
  generalize gTemps w 20 = x at h20
  have ex : x = nI (tn x) := by
    rw [i32_eq, nIn (by unfold tn; omega)]
    unfold tn; omega
  rw [ex]
  exact fp_mean _ (by unfold tn; omega)
theorem iv_share {D : Int} {w : Nat → Int32} (hV : IV D w) : vf_n32 (oShare w) ∧ vf_n64 (Jvm.FP.f2d (oShare w)) := by
  have ht4 := tn_lt4 hV.1
  have hs : ∀ n, n ≤ 40 → 0 ≤ (sK w n).toInt ∧ (sK w n).toInt ≤ (sN w n).toInt ∧ (sN w n).toInt ≤ 4 * (n : Int) := by
    intro n
    induction n with
    | zero => intro _; show (0 : Int) ≤ (0 : Int32).toInt ∧ (0 : Int32).toInt ≤ (0 : Int32).toInt ∧ (0 : Int32).toInt ≤ 4 * ((0 : Nat) : Int); decide
    | succ n ih =>
      intro hn
      have h1 := ih (by omega)
      have h2 : 0 ≤ (w (133 + 7 * n + 3)).toInt ∧ (w (133 + 7 * n + 3)).toInt ≤ 4 := bx_l hV.1 (i := n) (k := 3) (by omega) (by omega)
      have e : (sN w (n + 1)).toInt = (sN w n).toInt + (w (133 + 7 * n + 3)).toInt := tA (by omega)
      have e0 : (0 : Int32).toInt = 0 := rfl
      by_cases c : w (133 + 7 * n + 6) = 1
      · have f : (sK w (n + 1)).toInt = (sK w n).toInt + (w (133 + 7 * n + 3)).toInt := by
          show (sK w n + (if w (133 + 7 * n + 6) = 1 then w (133 + 7 * n + 3) else 0)).toInt = _
          rw [if_pos c]
          exact tA (by omega)
        rw [e, f]
        omega
      · have f : (sK w (n + 1)).toInt = (sK w n).toInt := by
          show (sK w n + (if w (133 + 7 * n + 6) = 1 then w (133 + 7 * n + 3) else 0)).toInt = _
          rw [if_neg c, Int32.add_zero]
        rw [e, f]
        omega
  have h40 := hs _ ht4.2.2.1
  rw [hV.2.2.2.1, hV.2.2.2.2] at h40
  have hN := ht4.2.2.1
  unfold oShare
  generalize w 6 = x at h40
  generalize w 7 = y at h40
  by_cases c : x = 0
  · rw [if_pos c]
    exact ⟨nn32_i (by decide +kernel), nn64_i (by decide +kernel)⟩
  · rw [if_neg c]
    have ex : x = nI (tn x) := by
      rw [i32_eq, nIn (by unfold tn; omega)]
      unfold tn; omega
    have ey : y = nI (tn y) := by
      rw [i32_eq, nIn (by unfold tn; omega)]
      unfold tn; omega
    have hx : tn x < 161 := by unfold tn; omega
    have hy : tn y < tn x + 1 := by unfold tn; omega
    have h0 : ¬ tn x = 0 := fun e => c (by rw [ex, e]; rfl)
    have := allB_at (allB_at fp_share (tn x) hx) (tn y) hy
    rw [Bool.or_eq_true, Bool.and_eq_true] at this
    rw [ex, ey]
    rcases this with h | ⟨h1, h2⟩
    · exact absurd (of_decide_eq_true h) h0
    · exact ⟨nn32_i h1, nn64_i h2⟩
theorem iv_init : IV 0 (wI 3) := by
  have z : ∀ j, 413 ≤ j → wI 3 j = 0 := fun j hj => by
    unfold wI
    rw [if_neg (by omega), if_neg (by omega), if_neg (by omega), if_neg (by omega)]
  refine ⟨fun j => ?_, fun i hi => ?_, ⟨by decide +kernel, by decide +kernel⟩, ⟨by decide +kernel, by decide +kernel⟩⟩
  · by_cases e : j < 413
    · exact of_decide_eq_true (allB_at (n := 413) (p := fun j => decide ((bnd 0 j).1 ≤ (wI 3 j).toInt ∧ (wI 3 j).toInt ≤ (bnd 0 j).2)) (by decide +kernel) j e)
    · rw [z j (by omega)]
      unfold bnd
      rw [if_neg (by omega), if_neg (by omega), if_neg (by omega), if_neg (by omega), if_neg (by omega), if_neg (by omega), if_neg (by omega), if_neg (by omega), if_neg (by omega)]
      decide
  · have e3 : (wI 3 3).toInt = 0 := by decide +kernel
    omega
