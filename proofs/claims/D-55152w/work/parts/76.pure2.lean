set_option maxRecDepth 100000
theorem calm_b {x : Int32} : 0 ≤ (imax 0 (imin 9 x)).toInt ∧ (imax 0 (imin 9 x)).toInt ≤ 9 := by
  have e0 : (0 : Int32).toInt = 0 := rfl
  have e9 : (9 : Int32).toInt = 9 := rfl
  unfold imax imin
  by_cases e : x < 9
  · rw [if_pos e]
    by_cases f : (0 : Int32) < x
    · rw [if_pos f]; rw [lt_I] at e f; omega
    · rw [if_neg f]; omega
  · rw [if_neg e]
    decide
theorem gSum_up {w w' : Nat → Int32} {k n s : Nat} {d : Int32} (hs : s < n) (h0 : ∀ t, t < n → t ≠ s → w' (17 + 9 * t + k) = w (17 + 9 * t + k)) (h1 : w' (17 + 9 * s + k) = w (17 + 9 * s + k) + d) : gSum w' k n = gSum w k n + d := by
  induction n with
  | zero => exact absurd hs (Nat.not_lt_zero s)
  | succ n ih =>
    show gSum w' k n + w' (17 + 9 * n + k) = gSum w k n + w (17 + 9 * n + k) + d
    by_cases e : s = n
    · subst e
      rw [h1, gSum_cg (fun t ht => h0 t (by omega) (by omega)), ← Int32.add_assoc]
    · rw [ih (by omega) (fun t ht hts => h0 t (by omega) hts), h0 n (by omega) (fun e2 => e e2.symm), Int32.add_assoc, Int32.add_assoc, Int32.add_comm d]
theorem sN_c2 {w w' : Nat → Int32} {n : Nat} (h : ∀ i k, i < n → k < 7 → w' (133 + 7 * i + k) = w (133 + 7 * i + k)) : sN w' n = sN w n ∧ sK w' n = sK w n := by
  induction n with
  | zero => exact ⟨rfl, rfl⟩
  | succ n ih =>
    have := ih (fun i k hi hk => h i k (by omega) hk)
    refine ⟨?_, ?_⟩
    · show sN w' n + w' (133 + 7 * n + 3) = sN w n + w (133 + 7 * n + 3)
      rw [this.1, h n 3 (by omega) (by omega)]
    · show sK w' n + (if w' (133 + 7 * n + 6) = 1 then w' (133 + 7 * n + 3) else 0) = sK w n + (if w (133 + 7 * n + 6) = 1 then w (133 + 7 * n + 3) else 0)
      rw [this.2, h n 3 (by omega) (by omega), h n 6 (by omega) (by omega)]
/-- a sale, read -/
theorem sale_rd {w : Nat → Int32} {s h b m : Nat} {n p : Int32} (hs : s < 4) (hh : h < 20) (hb : b < 3) (hm : tn (w 3) = m) (hm40 : m < 40) : ∀ W, W = gSale (gRing0 w) s h b n p → (W 1 = w 1 + 5 ∧ W 3 = w 3 + 1 ∧ W 6 = w 6 + n) ∧ (W (53 + 4 * h) = imax 0 (imin 9 (w (53 + 4 * h) + 1)) ∧ W (53 + 4 * h + 3) = w (53 + 4 * h + 3) ||| (1 : Int32) <<< (nI b &&& 31)) ∧ (W (17 + 9 * s + (3 + b)) = w (17 + 9 * s + (3 + b)) + -n ∧ W (17 + 9 * s + 6) = w (17 + 9 * s + 6) + n) ∧ (W (133 + 7 * m) = nI s ∧ W (133 + 7 * m + 1) = nI h ∧ W (133 + 7 * m + 2) = nI b ∧ W (133 + 7 * m + 3) = n ∧ W (133 + 7 * m + 4) = p ∧ W (133 + 7 * m + 6) = 0) ∧ ∀ j, j ≠ 1 → j ≠ 3 → j ≠ 4 → j ≠ 6 → j ≠ 9 → j ≠ 12 → j ≠ 53 + 4 * h → j ≠ 53 + 4 * h + 2 → j ≠ 53 + 4 * h + 3 → j ≠ 17 + 9 * s + (3 + b) → j ≠ 17 + 9 * s + 6 → (j < 133 + 7 * m ∨ 140 + 7 * m ≤ j) → W j = w j := by
  intro W hW
  have e3 : gRing0 w 3 = w 3 := rfl
  have e0 : W = gSaleC (gSaleB (gSaleA (upd (gCalm (gRing0 w) h 1) 3 (w 3 + 1)) (133 + 7 * m) s h b n p) (133 + 7 * m) s h b n) h b n p := by
    rw [hW, gSale, e3, hm]
  clear hW
  unfold gSaleC gSaleB gSaleA gCalm gRing0 gTm at e0
  dsimp only at e0
  refine ⟨⟨?_, ?_, ?_⟩, ⟨?_, ?_⟩, ⟨?_, ?_⟩, ⟨?_, ?_, ?_, ?_, ?_, ?_⟩, fun j a1 a2 a3 a4 a5 a6 a7 a8 a9 b1 b2 b3 => ?_⟩
  all_goals (rw [e0])
  · (repeat rw [upd_n (by omega)]); rw [upd_s]
  · (repeat rw [upd_n (by omega)]); rw [upd_s]
  · (repeat rw [upd_n (by omega)]); rw [upd_s]; (repeat rw [upd_n (by omega)])
  · (repeat rw [upd_n (by omega)]); rw [upd_s]; (repeat rw [upd_n (by omega)])
  · (repeat rw [upd_n (by omega)]); rw [upd_s]; (repeat rw [upd_n (by omega)])
  · (repeat rw [upd_n (by omega)]); rw [upd_s]; (repeat rw [upd_n (by omega)])
  · (repeat rw [upd_n (by omega)]); rw [upd_s]; (repeat rw [upd_n (by omega)])
  · (repeat rw [upd_n (by omega)]); rw [upd_s]
  · (repeat rw [upd_n (by omega)]); rw [upd_s]
  · (repeat rw [upd_n (by omega)]); rw [upd_s]
  · (repeat rw [upd_n (by omega)]); rw [upd_s]
  · (repeat rw [upd_n (by omega)]); rw [upd_s]
  · (repeat rw [upd_n (by omega)]); rw [upd_s]
  · repeat rw [upd_n (by omega)]
theorem or_b {x : Int32} {b : Nat} (hb : b < 3) (hx : 0 ≤ x.toInt ∧ x.toInt ≤ 7) : 0 ≤ (x ||| (1 : Int32) <<< (nI b &&& 31)).toInt ∧ (x ||| (1 : Int32) <<< (nI b &&& 31)).toInt ≤ 7 := by
  have ex : x = nI (tn x) := by
    rw [i32_eq, nIn (by unfold tn; omega)]
    unfold tn; omega
  have h8 : tn x < 8 := by unfold tn; omega
  rw [ex]
  have := allB_at (n := 3) (p := fun b => allB 8 (fun k => decide (0 ≤ (nI k ||| (1 : Int32) <<< (nI b &&& 31)).toInt ∧ (nI k ||| (1 : Int32) <<< (nI b &&& 31)).toInt ≤ 7))) (by decide +kernel) b hb
  exact of_decide_eq_true (allB_at this (tn x) h8)
theorem wants_b {w : Nat → Int32} {s h b : Nat} {p : Int32} (hp : 1 ≤ p.toInt ∧ p.toInt ≤ 20) (hn : ¬ gWants w s h b p = 0) : 1 ≤ (gWants w s h b p).toInt ∧ (gWants w s h b p).toInt ≤ 4 ∧ (gWants w s h b p).toInt ≤ (gSl w s (3 + b)).toInt := by
  have e0 : (0 : Int32).toInt = 0 := rfl
  have hd : ∀ c : Int32, (c = 0 ∨ c = 1) → (3 - p / 3 + c).toInt ≤ 4 := by
    intro c hc
    have ex : p = nI (tn p) := by
      rw [i32_eq, nIn (by unfold tn; omega)]
      unfold tn; omega
    have h8 : tn p < 21 := by unfold tn; omega
    rw [ex]
    have := allB_at (n := 21) (p := fun k => decide ((3 - nI k / 3 + 0).toInt ≤ 4 ∧ (3 - nI k / 3 + 1).toInt ≤ 4)) (by decide +kernel) (tn p) h8
    have := of_decide_eq_true this
    rcases hc with rfl | rfl
    · exact this.1
    · exact this.2
  unfold gWants at hn ⊢
  split at hn
  case isFalse => exact absurd rfl hn
  case isTrue hl =>
    rw [if_pos hl]
    have hc := hd (if w (53 + 4 * h + 3) >>> (nI b &&& 31) &&& 1 = 0 then 1 else 0) (by split <;> simp)
    generalize 3 - p / 3 + (if w (53 + 4 * h + 3) >>> (nI b &&& 31) &&& 1 = 0 then 1 else 0) = y at hc hn ⊢
    generalize gSl w s (3 + b) = z at hn ⊢
    unfold imax imin at hn ⊢
    by_cases e : z < y
    · rw [if_pos e] at hn ⊢
      by_cases f : (0 : Int32) < z
      · rw [if_pos f]; rw [lt_I] at e f; omega
      · rw [if_neg f] at hn; exact absurd rfl hn
    · rw [if_neg e] at hn ⊢
      by_cases f : (0 : Int32) < y
      · rw [if_pos f]; rw [lt_I] at e f; omega
      · rw [if_neg f] at hn; exact absurd rfl hn
