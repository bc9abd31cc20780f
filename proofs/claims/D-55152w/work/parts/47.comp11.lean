set_option maxRecDepth 100000
theorem sA_0 {w : Nat → Int32} {k s h b : Nat} {n p : Int32} : gSaleA w k s h b n p (k) = nI s := by
  unfold gSaleA
  try dsimp only
  repeat first | rw [upd_s] | rw [upd_n (by omega)]
theorem sA_1 {w : Nat → Int32} {k s h b : Nat} {n p : Int32} : gSaleA w k s h b n p (k + 1) = nI h := by
  unfold gSaleA
  try dsimp only
  repeat first | rw [upd_s] | rw [upd_n (by omega)]
theorem sA_2 {w : Nat → Int32} {k s h b : Nat} {n p : Int32} : gSaleA w k s h b n p (k + 2) = nI b := by
  unfold gSaleA
  try dsimp only
  repeat first | rw [upd_s] | rw [upd_n (by omega)]
theorem sA_3 {w : Nat → Int32} {k s h b : Nat} {n p : Int32} : gSaleA w k s h b n p (k + 3) = n := by
  unfold gSaleA
  try dsimp only
  repeat first | rw [upd_s] | rw [upd_n (by omega)]
theorem sA_4 {w : Nat → Int32} {k s h b : Nat} {n p : Int32} : gSaleA w k s h b n p (k + 4) = p := by
  unfold gSaleA
  try dsimp only
  repeat first | rw [upd_s] | rw [upd_n (by omega)]
theorem sA_o {w : Nat → Int32} {k s h b : Nat} {n p : Int32} {i : Nat} (e0 : i ≠ k) (e1 : i ≠ k + 1) (e2 : i ≠ k + 2) (e3 : i ≠ k + 3) (e4 : i ≠ k + 4) : gSaleA w k s h b n p i = w i := by
  unfold gSaleA
  try dsimp only
  rw [upd_n e4, upd_n e3, upd_n e2, upd_n e1, upd_n e0]
theorem sB_5 {w : Nat → Int32} {k s h b : Nat} {n : Int32} (hk : 133 ≤ k) (hs : s < 4) (hb : b < 3) : gSaleB w k s h b n (k + 5) = w 0 := by
  unfold gSaleB
  try dsimp only
  repeat first | rw [upd_s] | rw [upd_n (by omega)]
theorem sB_6 {w : Nat → Int32} {k s h b : Nat} {n : Int32} (hk : 133 ≤ k) (hs : s < 4) (hb : b < 3) : gSaleB w k s h b n (k + 6) = 0 := by
  unfold gSaleB
  try dsimp only
  repeat first | rw [upd_s] | rw [upd_n (by omega)]
theorem sB_b {w : Nat → Int32} {k s h b : Nat} {n : Int32} (hk : 133 ≤ k) (hs : s < 4) (hb : b < 3) : gSaleB w k s h b n (17 + 9 * s + (3 + b)) = w (17 + 9 * s + (3 + b)) + -n := by
  unfold gSaleB
  try dsimp only
  repeat first | rw [upd_s] | rw [upd_n (by omega)]
theorem sB_s {w : Nat → Int32} {k s h b : Nat} {n : Int32} (hk : 133 ≤ k) (hs : s < 4) (hb : b < 3) : gSaleB w k s h b n (17 + 9 * s + 6) = w (17 + 9 * s + 6) + n := by
  unfold gSaleB
  try dsimp only
  repeat first | rw [upd_s] | rw [upd_n (by omega)]
theorem sB_o {w : Nat → Int32} {k s h b : Nat} {n : Int32} {i : Nat} (hk : 133 ≤ k) (hs : s < 4) (hb : b < 3) (e0 : i ≠ k + 5) (e1 : i ≠ k + 6) (e2 : i ≠ 17 + 9 * s + (3 + b)) (e3 : i ≠ 17 + 9 * s + 6) : gSaleB w k s h b n i = w i := by
  unfold gSaleB
  try dsimp only
  rw [upd_n e3, upd_n e2, upd_n e1, upd_n e0]
theorem sC_2 {w : Nat → Int32} {h b : Nat} {n p : Int32} : gSaleC w h b n p (53 + 4 * h + 2) = w (53 + 4 * h + 2) + n := by
  unfold gSaleC
  try dsimp only
  repeat first | rw [upd_s] | rw [upd_n (by omega)]
theorem sC_3 {w : Nat → Int32} {h b : Nat} {n p : Int32} : gSaleC w h b n p (53 + 4 * h + 3) = w (53 + 4 * h + 3) ||| (1 : Int32) <<< (nI b &&& 31) := by
  unfold gSaleC
  try dsimp only
  repeat first | rw [upd_s] | rw [upd_n (by omega)]
theorem sC_6 {w : Nat → Int32} {h b : Nat} {n p : Int32} : gSaleC w h b n p (6) = w 6 + n := by
  unfold gSaleC
  try dsimp only
  repeat first | rw [upd_s] | rw [upd_n (by omega)]
theorem sC_4 {w : Nat → Int32} {h b : Nat} {n p : Int32} : gSaleC w h b n p (4) = w 4 + n * p := by
  unfold gSaleC
  try dsimp only
  repeat first | rw [upd_s] | rw [upd_n (by omega)]
theorem sC_9 {w : Nat → Int32} {h b : Nat} {n p : Int32} : gSaleC w h b n p (9) = w 9 + n * p := by
  unfold gSaleC
  try dsimp only
  repeat first | rw [upd_s] | rw [upd_n (by omega)]
theorem sC_o {w : Nat → Int32} {h b : Nat} {n p : Int32} {i : Nat} (e0 : i ≠ 53 + 4 * h + 2) (e1 : i ≠ 53 + 4 * h + 3) (e2 : i ≠ 6) (e3 : i ≠ 4) (e4 : i ≠ 9) : gSaleC w h b n p i = w i := by
  unfold gSaleC
  try dsimp only
  rw [upd_n e4, upd_n e3, upd_n e2, upd_n e1, upd_n e0]
/-- what the component writes when a sale is made, but for the sale -/
def cBuy (r : Nat → Int32) (P b : Nat) (n : Int32) : Nat → Int32 := (upd (upd (upd r (53 + 4 * P + 2) (r (53 + 4 * P + 2) + n)) (53 + 4 * P + 3) (bset (r (53 + 4 * P + 3)) (nI b))) (53 + 4 * P) (imax 0 (imin 9 (r (53 + 4 * P) + 1))))
def cSell (w : Nat → Int32) (k b : Nat) (n p : Int32) : Nat → Int32 := (upd (upd (upd (upd w (17 + 9 * k + (3 + b)) (w (17 + 9 * k + (3 + b)) - n)) (17 + 9 * k + 6) (w (17 + 9 * k + 6) + n)) (4) (w 4 + n * p)) (9) (w 9 + n * p))
theorem cB_2 {r : Nat → Int32} {P b : Nat} {n : Int32} : cBuy r P b n (53 + 4 * P + 2) = r (53 + 4 * P + 2) + n := by
  unfold cBuy
  try dsimp only
  repeat first | rw [upd_s] | rw [upd_n (by omega)]
theorem cB_3 {r : Nat → Int32} {P b : Nat} {n : Int32} : cBuy r P b n (53 + 4 * P + 3) = bset (r (53 + 4 * P + 3)) (nI b) := by
  unfold cBuy
  try dsimp only
  repeat first | rw [upd_s] | rw [upd_n (by omega)]
theorem cB_0 {r : Nat → Int32} {P b : Nat} {n : Int32} : cBuy r P b n (53 + 4 * P) = imax 0 (imin 9 (r (53 + 4 * P) + 1)) := by
  unfold cBuy
  try dsimp only
  repeat first | rw [upd_s] | rw [upd_n (by omega)]
theorem cB_o {r : Nat → Int32} {P b : Nat} {n : Int32} {i : Nat} (e0 : i ≠ 53 + 4 * P + 2) (e1 : i ≠ 53 + 4 * P + 3) (e2 : i ≠ 53 + 4 * P) : cBuy r P b n i = r i := by
  unfold cBuy
  try dsimp only
  rw [upd_n e2, upd_n e1, upd_n e0]
theorem cS_b {w : Nat → Int32} {k b : Nat} {n p : Int32} (hk : k < 4) (hb : b < 3) : cSell w k b n p (17 + 9 * k + (3 + b)) = w (17 + 9 * k + (3 + b)) - n := by
  unfold cSell
  try dsimp only
  repeat first | rw [upd_s] | rw [upd_n (by omega)]
theorem cS_s {w : Nat → Int32} {k b : Nat} {n p : Int32} (hk : k < 4) (hb : b < 3) : cSell w k b n p (17 + 9 * k + 6) = w (17 + 9 * k + 6) + n := by
  unfold cSell
  try dsimp only
  repeat first | rw [upd_s] | rw [upd_n (by omega)]
theorem cS_4 {w : Nat → Int32} {k b : Nat} {n p : Int32} (hk : k < 4) (hb : b < 3) : cSell w k b n p (4) = w 4 + n * p := by
  unfold cSell
  try dsimp only
  repeat first | rw [upd_s] | rw [upd_n (by omega)]
theorem cS_9 {w : Nat → Int32} {k b : Nat} {n p : Int32} (hk : k < 4) (hb : b < 3) : cSell w k b n p (9) = w 9 + n * p := by
  unfold cSell
  try dsimp only
  repeat first | rw [upd_s] | rw [upd_n (by omega)]
theorem cS_o {w : Nat → Int32} {k b : Nat} {n p : Int32} {i : Nat} (hk : k < 4) (hb : b < 3) (e0 : i ≠ 17 + 9 * k + (3 + b)) (e1 : i ≠ 17 + 9 * k + 6) (e2 : i ≠ 4) (e3 : i ≠ 9) : cSell w k b n p i = w i := by
  unfold cSell
  try dsimp only
  rw [upd_n e3, upd_n e2, upd_n e1, upd_n e0]
theorem ring_o {r : Nat → Int32} {s P b : Nat} {n p : Int32} (hs : s < 4) (hP : P < 20) (hb : b < 3) (i : Nat) (i3 : i ≠ 3) (i6 : i ≠ 6) (hi : ¬ (133 + 7 * tn (r 3) ≤ i ∧ i < 140 + 7 * tn (r 3))) : gSale r s P b n p i = cSell (cBuy r P b n) s b n p i := by
  unfold gSale gCalm gTm
  generalize tn (r 3) = K at hi ⊢
  by_cases e1 : i = 53 + 4 * P + 2
  · subst e1
    rw [sC_2, sB_o (by omega) hs hb (by omega) (by omega) (by omega) (by omega), sA_o (by omega) (by omega) (by omega) (by omega) (by omega), upd_n (by omega), upd_n (by omega), cS_o hs hb (by omega) (by omega) (by omega) (by omega), cB_2]
  by_cases e2 : i = 53 + 4 * P + 3
  · subst e2
    rw [sC_3, sB_o (by omega) hs hb (by omega) (by omega) (by omega) (by omega), sA_o (by omega) (by omega) (by omega) (by omega) (by omega), upd_n (by omega), upd_n (by omega), cS_o hs hb (by omega) (by omega) (by omega) (by omega), cB_3]
    rfl
  by_cases e3 : i = 4
  · subst e3
    rw [sC_4, sB_o (by omega) hs hb (by omega) (by omega) (by omega) (by omega), sA_o (by omega) (by omega) (by omega) (by omega) (by omega), upd_n (by omega), upd_n (by omega), cS_4 hs hb, cB_o (by omega) (by omega) (by omega)]
  by_cases e4 : i = 9
  · subst e4
    rw [sC_9, sB_o (by omega) hs hb (by omega) (by omega) (by omega) (by omega), sA_o (by omega) (by omega) (by omega) (by omega) (by omega), upd_n (by omega), upd_n (by omega), cS_9 hs hb, cB_o (by omega) (by omega) (by omega)]
  rw [sC_o e1 e2 i6 e3 e4]
  by_cases e5 : i = 17 + 9 * s + (3 + b)
  · subst e5
    rw [sB_b (by omega) hs hb, sA_o (by omega) (by omega) (by omega) (by omega) (by omega), upd_n (by omega), upd_n (by omega), cS_b hs hb, cB_o (by omega) (by omega) (by omega), Int32.sub_eq_add_neg]
  by_cases e6 : i = 17 + 9 * s + 6
  · subst e6
    rw [sB_s (by omega) hs hb, sA_o (by omega) (by omega) (by omega) (by omega) (by omega), upd_n (by omega), upd_n (by omega), cS_s hs hb, cB_o (by omega) (by omega) (by omega)]
  rw [sB_o (by omega) hs hb (by omega) (by omega) e5 e6, sA_o (by omega) (by omega) (by omega) (by omega) (by omega), upd_n i3, cS_o hs hb e5 e6 e3 e4]
  by_cases e7 : i = 53 + 4 * P
  · subst e7
    rw [upd_s, cB_0]
  · rw [upd_n e7, cB_o e1 e2 e7]
theorem ringS_3 {r : Nat → Int32} {s P b : Nat} {n p : Int32} (hs : s < 4) (hb : b < 3) : gSale r s P b n p 3 = r 3 + 1 := by
  unfold gSale gCalm gTm
  rw [sC_o (by omega) (by omega) (by omega) (by omega) (by omega), sB_o (by omega) hs hb (by omega) (by omega) (by omega) (by omega), sA_o (by omega) (by omega) (by omega) (by omega) (by omega), upd_s]
theorem ring_s0 {r : Nat → Int32} {s P b : Nat} {n p : Int32} (hs : s < 4) (hP : P < 20) (hb : b < 3) : gSale r s P b n p (133 + 7 * tn (r 3)) = nI s := by
  unfold gSale gCalm gTm
  generalize tn (r 3) = K
  rw [sC_o (by omega) (by omega) (by omega) (by omega) (by omega), sB_o (by omega) hs hb (by omega) (by omega) (by omega) (by omega), sA_0]
theorem ring_s1 {r : Nat → Int32} {s P b : Nat} {n p : Int32} (hs : s < 4) (hP : P < 20) (hb : b < 3) : gSale r s P b n p (133 + 7 * tn (r 3) + 1) = nI P := by
  unfold gSale gCalm gTm
  generalize tn (r 3) = K
  rw [sC_o (by omega) (by omega) (by omega) (by omega) (by omega), sB_o (by omega) hs hb (by omega) (by omega) (by omega) (by omega), sA_1]
theorem ring_s2 {r : Nat → Int32} {s P b : Nat} {n p : Int32} (hs : s < 4) (hP : P < 20) (hb : b < 3) : gSale r s P b n p (133 + 7 * tn (r 3) + 2) = nI b := by
  unfold gSale gCalm gTm
  generalize tn (r 3) = K
  rw [sC_o (by omega) (by omega) (by omega) (by omega) (by omega), sB_o (by omega) hs hb (by omega) (by omega) (by omega) (by omega), sA_2]
theorem ring_s3 {r : Nat → Int32} {s P b : Nat} {n p : Int32} (hs : s < 4) (hP : P < 20) (hb : b < 3) : gSale r s P b n p (133 + 7 * tn (r 3) + 3) = n := by
  unfold gSale gCalm gTm
  generalize tn (r 3) = K
  rw [sC_o (by omega) (by omega) (by omega) (by omega) (by omega), sB_o (by omega) hs hb (by omega) (by omega) (by omega) (by omega), sA_3]
theorem ring_s4 {r : Nat → Int32} {s P b : Nat} {n p : Int32} (hs : s < 4) (hP : P < 20) (hb : b < 3) : gSale r s P b n p (133 + 7 * tn (r 3) + 4) = p := by
  unfold gSale gCalm gTm
  generalize tn (r 3) = K
  rw [sC_o (by omega) (by omega) (by omega) (by omega) (by omega), sB_o (by omega) hs hb (by omega) (by omega) (by omega) (by omega), sA_4]
theorem ring_s5 {r : Nat → Int32} {s P b : Nat} {n p : Int32} (hs : s < 4) (hP : P < 20) (hb : b < 3) : gSale r s P b n p (133 + 7 * tn (r 3) + 5) = r 0 := by
  unfold gSale gCalm gTm
  generalize tn (r 3) = K
  rw [sC_o (by omega) (by omega) (by omega) (by omega) (by omega), sB_5 (by omega) hs hb, sA_o (by omega) (by omega) (by omega) (by omega) (by omega), upd_n (by omega), upd_n (by omega)]
theorem ring_s6 {r : Nat → Int32} {s P b : Nat} {n p : Int32} (hs : s < 4) (hP : P < 20) (hb : b < 3) : gSale r s P b n p (133 + 7 * tn (r 3) + 6) = 0 := by
  unfold gSale gCalm gTm
  generalize tn (r 3) = K
  rw [sC_o (by omega) (by omega) (by omega) (by omega) (by omega), sB_6 (by omega) hs hb]
theorem nn_le0 {x : Int32} (h : 0 ≤ x.toInt) (h2 : x ≤ 0) : x = 0 := by
  rw [Int32.le_iff_toInt_le] at h2
  have h0 : (0 : Int32).toInt = 0 := rfl
  exact i32_eq.mpr (by omega)
theorem ringr_o {w : Nat → Int32} {i : Nat} (h1 : i ≠ 1) (h2 : i ≠ 12) : gRing0 w i = w i := by
  unfold gRing0
  rw [upd_n h2, upd_n h1]
theorem cB_23 {r : Nat → Int32} {P b : Nat} {n : Int32} {j : Nat} (hj : j < 53) : cBuy r P b n j = r j := cB_o (by omega) (by omega) (by omega)
theorem cS_23 {w : Nat → Int32} {k b : Nat} {n p : Int32} {j : Nat} (hk : k < 4) (hb : b < 3) (hj : j = 2 ∨ j = 3) : cSell w k b n p j = w j := cS_o hk hb (by omega) (by omega) (by omega) (by omega)
theorem XT_hu {ad : Nat → Nat} {w w' : Nat → Int32} {h : HP} {q : Nat} {X : Bd} (e2 : w' 2 = w 2) (e3 : w' 3 = w 3) (hq : h q = none) : XT ad w h (cH ad w' (hu h q X)) := XT_ex (XT_rf e2 e3) (cH_ext (Ext.new hq))
theorem XT_add {ad : Nat → Nat} {w w2 : Nat → Int32} {h H H' : HP} {qs qn : Nat} (hx : XT ad w h H) (hq : H qn = none) (e3 : w2 3 = w 3) (hk : tn (w 3) < 40) (hA : addQ ad w2 H qs qn H') : XT ad w h H' := by
  rcases hA with ⟨-, rfl⟩ | ⟨m, hm, rfl⟩
  · exact XT_ad 5 (XT_new hx hq) (by decide) (cdm_i (by omega))
  · rw [e3] at hm
    exact XT_ad (81 + 2 * m) (XT_ad 5 (XT_new hx hq) (by decide) (cdm_i (by omega))) (by omega) (cdm_i (by omega))
theorem add_cP {ad ad' : Nat → Nat} {w w' : Nat → Int32} {h H' : HP} {qs qn k : Nat} (hk : tn (w 3) = k) (hk' : tn (w' 3) = k + 1) (e2 : w' 2 = w 2) (ea : ∀ j, j ≠ 80 + 2 * k → j ≠ 81 + 2 * k → ad' j = ad j) (e80 : ad' (80 + 2 * k) = qs) (e81 : ad' (81 + 2 * k) = qn) (i' : cI ad' w') (S' : St H' ad' w') (ns : cH ad w h qs = none) (nn : cH ad w h qn = none) (hx : XT ad w h H') : cP ad w h w' H' := by
  refine cP_of i' (ea 0 (by omega) (by omega)) (fun j hj hd => ?_) (fun j hj hd => ?_) S' hx
  · by_cases j1 : j = 80 + 2 * k
    · rw [j1, e80]; exact Or.inr ns
    · by_cases j2 : j = 81 + 2 * k
      · rw [j2, e81]; exact Or.inr nn
      · refine Or.inl ⟨cdm_i ?_, ea j j1 j2⟩
        have h9 := cdm_e hd
        rw [hk', e2] at h9
        rw [hk]
        omega
  · have h9 := cdm_e hd
    rw [hk] at h9
    refine ⟨cdm_i ?_, ea j (by omega) (by omega)⟩
    rw [hk', e2]
    omega
theorem cH_no {ad : Nat → Nat} {w w' : Nat → Int32} {h : HP} {q : Nat} (hq : cH ad w' h q = none) (e2 : w' 2 = w 2) (e3 : w' 3 = w 3) : cH ad w h q = none := by
  obtain ⟨a, b⟩ := ov_none hq
  rw [cH, ov_n (cF_no a e2.symm e3.symm), b]
theorem ring_end {ad : Nat → Nat} {w : Nat → Int32} {h H' : HP} {qs qn s P b : Nat} {n z x : Int32} (hi : cI ad w) (hs : s < 4) (hP : P < 20) (hb : b < 3) (hx : x.toInt = (s : Int)) (h24 : tn (w 2) ≤ 4) (hN3 : (w 3).toInt = (tn (w 3) : Int)) (hN40 : tn (w 3) < 40) (hqs : cH ad (cBuy (gRing0 w) P b n) h qs = none) (hqn : cH ad (cSell (cBuy (gRing0 w) P b n) s b n z) (hu h qs (bO 5 [.int x, .int (nI P), .int (nI b), .int n, .int z, .int (w 0), .int 0])) qn = none) (hA : addQ ad (cSell (cBuy (gRing0 w) P b n) s b n z) (cH ad (cSell (cBuy (gRing0 w) P b n) s b n z) (hu h qs (bO 5 [.int x, .int (nI P), .int (nI b), .int n, .int z, .int (w 0), .int 0]))) qs qn H') : cP ad w h (gSale (gRing0 w) s P b n z) H' := by
  have b2 : ∀ j, j = 2 ∨ j = 3 → cBuy (gRing0 w) P b n j = w j := fun j hj => (cB_23 (by omega)).trans (ringr_o (by omega) (by omega))
  have s2 : ∀ j, j = 2 ∨ j = 3 → cSell (cBuy (gRing0 w) P b n) s b n z j = w j := fun j hj => (cS_23 hs hb hj).trans (b2 j hj)
  have iS : cI ad (cSell (cBuy (gRing0 w) P b n) s b n z) := cI_e hi (s2 2 (Or.inl rfl)) (s2 3 (Or.inr rfl))
  have nqs : cH ad w h qs = none := cH_no hqs (b2 2 (Or.inl rfl)) (b2 3 (Or.inr rfl))
  have nqn1 := ov_none hqn
  have nqn2 := ov_none_hu nqn1.2
  have nqn : cH ad w h qn = none := by
    rw [cH, ov_n (cF_no nqn1.1 (s2 2 (Or.inl rfl)).symm (s2 3 (Or.inr rfl)).symm), nqn2.2]
  have r3 : gRing0 w 3 = w 3 := ringr_o (by omega) (by omega)
  have g3 : gSale (gRing0 w) s P b n z 3 = w 3 + 1 := by rw [ringS_3 hs hb, r3]
  have g2 : gSale (gRing0 w) s P b n z 2 = w 2 := by rw [ring_o hs hP hb 2 (by omega) (by omega) (by omega), s2 2 (Or.inl rfl)]
  have k1 : tn (gSale (gRing0 w) s P b n z 3) = tn (w 3) + 1 := by rw [g3]; exact tn_s hN3 (by omega)
  have nsF : cF ad (cSell (cBuy (gRing0 w) P b n) s b n z) qs = none := cF_no (ov_none hqs).1 ((s2 2 (Or.inl rfl)).trans (b2 2 (Or.inl rfl)).symm) ((s2 3 (Or.inr rfl)).trans (b2 3 (Or.inr rfl)).symm)
  obtain ⟨ad', ea, e80, e81, i', S'⟩ := add_sale (w' := gSale (gRing0 w) s P b n z) (qa := qs) (qn := qn) (k := tn (w 3)) iS (St_cH iS) (by rw [s2 2 (Or.inl rfl)]; exact h24) (by rw [s2 3 (Or.inr rfl)]) hN40 k1 (by rw [g3, s2 3 (Or.inr rfl)]) (by rw [g2, s2 2 (Or.inl rfl)]) nsF nqn1.1 (Ne.symm nqn2.1) (fun i i3 i6 i7 hr => ring_o hs hP hb i i3 i6 (by rw [r3]; exact hr)) (by
    rw [cH, ov_n nsF, hu_s]
    have q0 := ring_s0 (r := gRing0 w) (n := n) (p := z) hs hP hb
    have q1 := ring_s1 (r := gRing0 w) (n := n) (p := z) hs hP hb
    have q2 := ring_s2 (r := gRing0 w) (n := n) (p := z) hs hP hb
    have q3 := ring_s3 (r := gRing0 w) (n := n) (p := z) hs hP hb
    have q4 := ring_s4 (r := gRing0 w) (n := n) (p := z) hs hP hb
    have q5 := ring_s5 (r := gRing0 w) (n := n) (p := z) hs hP hb
    have q6 := ring_s6 (r := gRing0 w) (n := n) (p := z) hs hP hb
    rw [r3] at q0 q1 q2 q3 q4 q5 q6
    rw [cSa, q0, q1, q2, q3, q4, q5, q6, ringr_o (by omega) (by omega), ← i32_of hx]) hA
  exact add_cP rfl k1 g2 ea e80 e81 i' S' nqs nqn (XT_add (XT_hu (s2 2 (Or.inl rfl)) (s2 3 (Or.inr rfl)) (ov_none hqs).2) hqn (s2 3 (Or.inr rfl)) hN40 hA)
set_option maxHeartbeats 4000000 in
set_option maxRecDepth 100000 in
theorem sp_X1_rings {G : GG} {h : HP} {ad : Nat → Nat} {w : Nat → Int32} (hi : cI ad w) (hK : KS G) {x z : Int32} (hS : isS w x = true ∧ x.toInt = (tn x : Int) ∧ tn x < 4 ∧ (tn x : Int) < (w 2).toInt) (b : Nat) (hb : b < 3) (hB : isB (nI b) = true) (hZ : isP z = true) (P : Nat) (hP : (w (17 + 9 * tn x + 1)).toInt = (P : Int)) (hP20 : P < 20) (hm : 0 ≤ (w 1).toInt ∧ (w 1).toInt ≤ 480) (hbr : 0 ≤ (w (17 + 9 * tn x + (3 + b))).toInt) (hw3 : 0 ≤ (w (53 + 4 * P + 3)).toInt ∧ (w (53 + 4 * P + 3)).toInt ≤ 7) (h24 : tn (w 2) ≤ 4) (hN3 : (w 3).toInt = (tn (w 3) : Int)) (hN9 : tn (w 3) ≤ 40) : Ct G 7 60 M_X1_rings [.ref (ad 0), .int x, .int (nI b), .int z] (cH ad w h) (oQ ad w h (oRings w x (nI b) z)) := by
  refine ct_intro my_X1_rings (Nat.le_of_ble_eq_true rfl) ?_
  have hs : tn x < tn (w 2) := by have := hS.2.2.2; unfold tn at *; omega
  have hPt : tn (gSl w (tn x) 1) = P := tn_e hP
  have eb := nIn (show b < 1000 by omega)
  have hbt : tn (nI b) = b := tn_e eb
  first | refine r_aload_n dX1_rings_0 rfl ?_ | refine r_aload_nq dX1_rings_0 rfl ?_ | refine r_aload_nN dX1_rings_0 rfl ?_
  refine r_getfield 1 1 dX1_rings_1 rfl (Nat.le_of_ble_eq_true rfl) (lkA q298) (Or.inl rfl) (Or.inl (by first | exact c_0 hi | exact c_1 hi | exact c_2 hi | exact c_3 hi | exact c_4 hi | exact c_5 hi | exact c_6 hi)) (by rfl) ?_
  refine r_iload_n dX1_rings_4 rfl ?_
  refine r_invV dX1_rings_5 (sp_J2_get (c_3 hi) (c_4 hi) hS.2.1 hS.2.2.2 hS.2.2.1 (fSs_at hs)) rfl mo_J2_get (Or.inl (c_3 hi)) rfl (lkA q440) (lkA q441) (lkA q442) rfl (lkA q68) mp_J2_get (Nat.le_of_ble_eq_true rfl) (Nat.le_of_ble_eq_true rfl) (Nat.le_of_ble_eq_true rfl) (kr_e ?_) kx_e
  refine r_castS dX1_rings_8 (Or.inl (c_s hi (tn x) hS.2.2.1 hs)) rfl (lkA q862) ?_
  first | refine r_astore dX1_rings_11 (Nat.le_of_ble_eq_true rfl) ?_ | refine r_astoreq dX1_rings_11 (Nat.le_of_ble_eq_true rfl) ?_ | refine r_astoreN dX1_rings_11 (Nat.le_of_ble_eq_true rfl) ?_
  first | refine r_aload_n dX1_rings_13 rfl ?_ | refine r_aload_nq dX1_rings_13 rfl ?_ | refine r_aload_nN dX1_rings_13 rfl ?_
  refine r_getfield 1 0 dX1_rings_14 rfl (Nat.le_of_ble_eq_true rfl) (lkA q296) (Or.inl rfl) (Or.inl (by first | exact c_0 hi | exact c_1 hi | exact c_2 hi | exact c_3 hi | exact c_4 hi | exact c_5 hi | exact c_6 hi)) (by rfl) ?_
  first | refine r_aload dX1_rings_17 rfl ?_ | refine r_aloadq dX1_rings_17 rfl ?_ | refine r_aloadN dX1_rings_17 rfl ?_
  refine r_getfieldN 4 1 dX1_rings_19 rfl (Nat.le_of_ble_eq_true rfl) (lkT q876 rfl) (Or.inl rfl) (Or.inl (c_s hi (tn x) hS.2.2.1 hs)) (by rfl) ?_
  refine r_invV dX1_rings_22 (sp_J2_get (c_1 hi) (c_2 hi) hP (by have h20 : (20 : Int32).toInt = 20 := rfl; omega) hP20 (fHs_at hP20)) rfl mo_J2_get (Or.inl (c_1 hi)) rfl (lkA q440) (lkA q441) (lkA q442) rfl (lkA q68) mp_J2_get (Nat.le_of_ble_eq_true rfl) (Nat.le_of_ble_eq_true rfl) (Nat.le_of_ble_eq_true rfl) (kr_e ?_) kx_e
  refine r_castS dX1_rings_25 (Or.inl (c_h hi P hP20)) rfl (lkA q176) ?_
  first | refine r_astore dX1_rings_28 (Nat.le_of_ble_eq_true rfl) ?_ | refine r_astoreq dX1_rings_28 (Nat.le_of_ble_eq_true rfl) ?_ | refine r_astoreN dX1_rings_28 (Nat.le_of_ble_eq_true rfl) ?_
  first | refine r_aload dX1_rings_30 rfl ?_ | refine r_aloadq dX1_rings_30 rfl ?_ | refine r_aloadN dX1_rings_30 rfl ?_
  refine r_invV dX1_rings_32 (sp_X2_isGuarded (c_h hi P hP20)) rfl mo_X2_isGuarded (Or.inl (c_h hi P hP20)) rfl (lkA q1298) (lkA q1299) (lkA q1300) rfl (lkA q71) mp_X2_isGuarded (Nat.le_of_ble_eq_true rfl) (Nat.le_of_ble_eq_true rfl) (Nat.le_of_ble_eq_true rfl) (kr_e ?_) kx_e
  rw [show decide ((7 : Int32) ≤ gDg w P) = decide (7 ≤ gMd w P) from decide_eq_decide.mpr gd_7]
  refine r_bipush (v := 9) dX1_rings_35 rfl ?_
  first | refine r_aload dX1_rings_37 rfl ?_ | refine r_aloadq dX1_rings_37 rfl ?_ | refine r_aloadN dX1_rings_37 rfl ?_
  refine r_getfieldN 2 2 dX1_rings_39 rfl (Nat.le_of_ble_eq_true rfl) (lkT q212 rfl) (Or.inl rfl) (Or.inl (c_h hi P hP20)) (by rfl) ?_
  refine r_invSN dX1_rings_42 (sp_X0_refuse hK) rfl mo_X0_refuse (lkT q1051 rfl) (lkA q1052) rfl (lkA q64) mp_X0_refuse (Nat.le_of_ble_eq_true rfl) (Nat.le_of_ble_eq_true rfl) (Nat.le_of_ble_eq_true rfl) (fun v9 h9 p9 => ?_) (fun q9 h9 ci9 fs9 p9 hq9 => (by obtain ⟨e1, e2, rfl⟩ := p9; refine r_out hq9 rfl ?_; rw [show oRings w x (nI b) z = oR 9 (gDg w P) by unfold oRings; rw [if_pos ⟨hS.1, hB⟩, if_pos hZ, hPt, hbt]; unfold gRingR; rw [if_pos (of_decide_eq_true e1), dg_ge (Int32.le_trans (by decide) (of_decide_eq_true e1))]]; exact oQ_ref Ext.rf e2))
  obtain ⟨g1, rfl, rfl⟩ := p9
  have g1 : ¬ 7 ≤ gMd w P := fun e => g1 (decide_eq_true e)
  first | refine r_aload_n dX1_rings_45 rfl ?_ | refine r_aload_nq dX1_rings_45 rfl ?_ | refine r_aload_nN dX1_rings_45 rfl ?_
  refine r_iconst (v := 5) dX1_rings_46 rfl ?_
  refine r_invV dX1_rings_47 (sp_X1_checkMinutes hi hK) rfl mo_X1_checkMinutes (Or.inl (c_0 hi)) rfl (lkA q1274) (lkA q1276) (lkA qs18) rfl (lkA q65) mp_X1_checkMinutes (Nat.le_of_ble_eq_true rfl) (Nat.le_of_ble_eq_true rfl) (Nat.le_of_ble_eq_true rfl) (fun v9 h9 p9 => ?_) (fun q9 h9 ci9 fs9 p9 hq9 => (by obtain ⟨e1, e2, rfl⟩ := p9; refine r_out hq9 rfl ?_; rw [show oRings w x (nI b) z = oR 3 (480 - w 1) by unfold oRings; rw [if_pos ⟨hS.1, hB⟩, if_pos hZ, hPt, hbt]; unfold gRingR; rw [if_neg g1, if_pos (show gLeft w < 5 from (left_lt hm (by decide)).mp e1)]; rfl]; exact oQ_ref Ext.rf e2))
  obtain ⟨g2, rfl, rfl⟩ := p9
  have g2 : ¬ gLeft w < 5 := fun e => g2 ((left_lt hm (by decide)).mpr e)
  first | refine r_aload dX1_rings_50 rfl ?_ | refine r_aloadq dX1_rings_50 rfl ?_ | refine r_aloadN dX1_rings_50 rfl ?_
  refine r_getfieldN 4 3 dX1_rings_52 rfl (Nat.le_of_ble_eq_true rfl) (lkT q880 rfl) (Or.inl rfl) (Or.inl (c_s hi (tn x) hS.2.2.1 hs)) (by rfl) ?_
  refine r_iload_n dX1_rings_55 rfl ?_
  refine r_iaload (b) dX1_rings_56 (Or.inl (c_r hi (tn x) hS.2.2.1 hs)) eb hb (fBr_at hb) ?_
  refine r_if_ne 64 dX1_rings_57 rfl (fun c57 => ?_) (fun c57 => ?_)
  · refine r_iconst (v := 0) dX1_rings_64 rfl ?_
    refine r_bipush (v := 7) dX1_rings_65 rfl ?_
    refine r_iconst (v := 0) dX1_rings_67 rfl ?_
    refine r_invSN dX1_rings_68 (sp_X0_refuse0) rfl mo_X0_refuse (lkT q1051 rfl) (lkA q1052) rfl (lkA q64) mp_X0_refuse (Nat.le_of_ble_eq_true rfl) (Nat.le_of_ble_eq_true rfl) (Nat.le_of_ble_eq_true rfl) (kr_e ?_) kx_e
    first | refine r_aload_n dX1_rings_71 rfl ?_ | refine r_aload_nq dX1_rings_71 rfl ?_ | refine r_aload_nN dX1_rings_71 rfl ?_
    refine r_getfield 1 2 dX1_rings_72 rfl (Nat.le_of_ble_eq_true rfl) (lkA q300) (Or.inl rfl) (Or.inl (by first | exact c_0 hi | exact c_1 hi | exact c_2 hi | exact c_3 hi | exact c_4 hi | exact c_5 hi | exact c_6 hi)) (by rfl) ?_
    refine r_invV dX1_rings_75 (sp_J4_size (c_5 hi)) rfl mo_J4_size (Or.inl (c_5 hi)) rfl (lkA q1362) (lkA q533) (lkA q2243) rfl (lkA q70) mp_J4_size (Nat.le_of_ble_eq_true rfl) (Nat.le_of_ble_eq_true rfl) (Nat.le_of_ble_eq_true rfl) (kr_e ?_) kx_e
    refine r_bipush (v := 40) dX1_rings_78 rfl ?_
    refine r_icmp_ne 87 dX1_rings_80 rfl (fun c80 => ?_) (fun c80 => ?_)
    · refine r_iconst (v := 0) dX1_rings_87 rfl ?_
      refine r_iconst (v := 1) dX1_rings_88 rfl ?_
      refine r_bipush (v := 40) dX1_rings_89 rfl ?_
      refine r_invSN dX1_rings_91 (sp_X0_refuse0) rfl mo_X0_refuse (lkT q1051 rfl) (lkA q1052) rfl (lkA q64) mp_X0_refuse (Nat.le_of_ble_eq_true rfl) (Nat.le_of_ble_eq_true rfl) (Nat.le_of_ble_eq_true rfl) (kr_e ?_) kx_e
      first | refine r_aload_n dX1_rings_94 rfl ?_ | refine r_aload_nq dX1_rings_94 rfl ?_ | refine r_aload_nN dX1_rings_94 rfl ?_
      refine r_dup dX1_rings_95 rfl ?_
      refine r_getfield 1 5 dX1_rings_96 rfl (Nat.le_of_ble_eq_true rfl) (lkA q306) (Or.inl rfl) (Or.inl (by first | exact c_0 hi | exact c_1 hi | exact c_2 hi | exact c_3 hi | exact c_4 hi | exact c_5 hi | exact c_6 hi)) (by rfl) ?_
      refine r_iconst (v := 5) dX1_rings_99 rfl ?_
      refine r_iadd dX1_rings_100 ?_
      refine r_put 1 5 dX1_rings_101 rfl (Nat.le_of_ble_eq_true rfl) (lkA q306) (Or.inl rfl) rfl (c_0 hi) (by dsimp only [List.set]) (Nat.le_of_ble_eq_true rfl) rfl rfl (cu_1 hi) ?_
      have i1 : cI ad (upd w 1 (w 1 + 5)) := cI_u hi (by omega) (by omega)
      first | refine r_aload_n dX1_rings_104 rfl ?_ | refine r_aload_nq dX1_rings_104 rfl ?_ | refine r_aload_nN dX1_rings_104 rfl ?_
      refine r_dup dX1_rings_105 rfl ?_
      refine r_getfield 1 12 dX1_rings_106 rfl (Nat.le_of_ble_eq_true rfl) (lkA q320) (Or.inl rfl) (Or.inl (c_0 i1)) (show _ = some (Value.int (w 12)) from congrArg (fun z => some (Value.int z)) (upd_n (by omega))) ?_
      refine r_iconst (v := 1) dX1_rings_109 rfl ?_
      refine r_iadd dX1_rings_110 ?_
      refine r_put 1 12 dX1_rings_111 rfl (Nat.le_of_ble_eq_true rfl) (lkA q320) (Or.inl rfl) rfl (c_0 i1) (by dsimp only [List.set]) (Nat.le_of_ble_eq_true rfl) rfl rfl (cu_12 i1) ?_
      have hN40 : tn (w 3) < 40 := by
        have : (w 3).toInt ≠ 40 := fun e => c80 (i32_eq.mpr e)
        omega
      have ir : cI ad (gRing0 w) := cI_e hi (ringr_o (by omega) (by omega)) (ringr_o (by omega) (by omega))
      have hsr : tn x < tn (gRing0 w 2) := by rw [ringr_o (by omega) (by omega)]; exact hs
      refine V_heap (show _ = cH ad (gRing0 w) h from rfl) ?_
      first | refine r_aload dX1_rings_114 rfl ?_ | refine r_aloadq dX1_rings_114 rfl ?_ | refine r_aloadN dX1_rings_114 rfl ?_
      first | refine r_aload dX1_rings_116 rfl ?_ | refine r_aloadq dX1_rings_116 rfl ?_ | refine r_aloadN dX1_rings_116 rfl ?_
      refine r_getfieldN 4 0 dX1_rings_118 rfl (Nat.le_of_ble_eq_true rfl) (lkT q874 rfl) (Or.inl rfl) (Or.inl (c_s ir (tn x) hS.2.2.1 hsr)) (by rfl) ?_
      refine r_invV dX1_rings_121 (sp_X2_listensTo (c_h ir P hP20)) rfl mo_X2_listensTo (Or.inl (c_h ir P hP20)) rfl (lkA q1330) (lkA q1331) (lkA q1332) rfl (lkA q71) mp_X2_listensTo (Nat.le_of_ble_eq_true rfl) (Nat.le_of_ble_eq_true rfl) (Nat.le_of_ble_eq_true rfl) (kr_e ?_) kx_e
      rw [dg_isn]
      refine r_if_ne 135 dX1_rings_124 rfl (fun c124 => ?_) (fun c124 => ?_)
      · first | refine r_aload_n dX1_rings_135 rfl ?_ | refine r_aload_nq dX1_rings_135 rfl ?_ | refine r_aload_nN dX1_rings_135 rfl ?_
        first | refine r_aload dX1_rings_136 rfl ?_ | refine r_aloadq dX1_rings_136 rfl ?_ | refine r_aloadN dX1_rings_136 rfl ?_
        first | refine r_aload dX1_rings_138 rfl ?_ | refine r_aloadq dX1_rings_138 rfl ?_ | refine r_aloadN dX1_rings_138 rfl ?_
        refine r_iload_n dX1_rings_140 rfl ?_
        refine r_iload_n dX1_rings_141 rfl ?_
        refine r_invV dX1_rings_142 (sp_X1_would ir hK (tn x) P b hS.2.2.1 hsr hP20 hb (by rw [ringr_o (by omega) (by omega)]; exact hw3.1) (by rw [ringr_o (by omega) (by omega)]; exact hw3.2)) rfl mo_X1_would (Or.inl (c_0 ir)) rfl (lkA q1353) (lkA q1327) (lkA q1328) rfl (lkA q65) mp_X1_would (Nat.le_of_ble_eq_true rfl) (Nat.le_of_ble_eq_true rfl) (Nat.le_of_ble_eq_true rfl) (kr_e ?_) kx_e
        rw [gWd_eq (by rw [ringr_o (by omega) (by omega)]; exact hbr), gW_ring hS.2.2.1 hP20 hb]
        refine r_istore dX1_rings_145 (Nat.le_of_ble_eq_true rfl) ?_
        refine V_loc (L' := [(6, .int (gWants w (tn x) P b z)), (5, .ref (ad (10 + P))), (4, .ref (ad (70 + tn x))), (0, .ref (ad 0)), (1, .int x), (2, .int (nI b)), (3, .int z)]) ⟨rfl, rfl, rfl, rfl, rfl, rfl, rfl, trivial⟩ ?_
        by_cases hz : gWants w (tn x) P b z ≤ 0
        · first | refine r_aload dX1_rings_147 rfl ?_ | refine r_aloadq dX1_rings_147 rfl ?_ | refine r_aloadN dX1_rings_147 rfl ?_
          refine r_iload_n dX1_rings_149 rfl ?_
          refine r_iload dX1_rings_150 rfl ?_
          refine r_invV dX1_rings_152 (sp_X2_buys0 hz) rfl mo_X2_buys (Or.inl (c_h ir P hP20)) rfl (lkA q1368) (lkA q1369) (lkA q1370) rfl (lkA q71) mp_X2_buys (Nat.le_of_ble_eq_true rfl) (Nat.le_of_ble_eq_true rfl) (Nat.le_of_ble_eq_true rfl) (kr_e ?_) kx_e
          refine r_iload dX1_rings_155 rfl ?_
          refine r_if_le 187 dX1_rings_157 rfl (fun c157 => ?_) (fun c157 => absurd c157 (fun e => e hz))
          refine r_iload dX1_rings_187 rfl ?_
          exact r_ireturn dX1_rings_189 rfl (by first | rfl | exact bi_nar) (by have el : gListens w (tn x) P = true := (gL_ring hS.2.2.1 hP20).symm.trans (bi_n0.mp c124); have e0 : gWants w (tn x) P b z = 0 := nn_le0 gWants_nn hz; rw [show oRings w x (nI b) z = oK 0 (gRing0 w) by unfold oRings; rw [if_pos ⟨hS.1, hB⟩, if_pos hZ, hPt, hbt]; unfold gRingR; rw [if_neg g1, if_neg g2, if_neg (show ¬ gSl w (tn x) (3 + b) = 0 from c57), if_neg c80, if_pos el, if_pos e0], e0]; exact ⟨rfl, cP_same hi (ringr_o (i := 2) (by omega) (by omega)) (ringr_o (i := 3) (by omega) (by omega)) Ext.rf⟩)
        · first | refine r_aload dX1_rings_147 rfl ?_ | refine r_aloadq dX1_rings_147 rfl ?_ | refine r_aloadN dX1_rings_147 rfl ?_
          refine r_iload_n dX1_rings_149 rfl ?_
          refine r_iload dX1_rings_150 rfl ?_
          refine r_invV dX1_rings_152 (sp_X2_buys1 hK (c_h ir P hP20) (c_b ir P hP20) (c_w ir P hP20) (by rw [ringr_o (by omega) (by omega)]; exact hw3.1) (by rw [ringr_o (by omega) (by omega)]; exact hw3.2) (by rw [eb]; omega) (by rw [eb]; omega) hz (fun e => absurd (ir (30 + P) (10 + P) (by omega) (by omega) (cdm_i (by omega)) (cdm_i (by omega)) e) (by omega)) (fun e => absurd (ir (50 + P) (10 + P) (by omega) (by omega) (cdm_i (by omega)) (cdm_i (by omega)) e) (by omega))) rfl mo_X2_buys (Or.inl (c_h ir P hP20)) rfl (lkA q1368) (lkA q1369) (lkA q1370) rfl (lkA q71) mp_X2_buys (Nat.le_of_ble_eq_true rfl) (Nat.le_of_ble_eq_true rfl) (Nat.le_of_ble_eq_true rfl) (kr_e ?_) kx_e
          rw [cu_buys ir P hP20 (bset_w (by rw [ringr_o (by omega) (by omega)]; exact hw3.1) (by rw [ringr_o (by omega) (by omega)]; exact hw3.2) (by rw [eb]; omega) (by rw [eb]; omega)).2.1]
          refine V_heap (show _ = cH ad (cBuy (gRing0 w) P b (gWants w (tn x) P b z)) h from rfl) ?_
          have iB : cI ad (cBuy (gRing0 w) P b (gWants w (tn x) P b z)) := cI_e ir (cB_23 (by omega)) (cB_23 (by omega))
          refine r_iload dX1_rings_155 rfl ?_
          refine r_if_le 187 dX1_rings_157 rfl (fun c157 => absurd c157 hz) (fun c157 => ?_)
          first | refine r_aload_n dX1_rings_160 rfl ?_ | refine r_aload_nq dX1_rings_160 rfl ?_ | refine r_aload_nN dX1_rings_160 rfl ?_
          first | refine r_aload dX1_rings_161 rfl ?_ | refine r_aloadq dX1_rings_161 rfl ?_ | refine r_aloadN dX1_rings_161 rfl ?_
          refine r_new 5 [.int 0, .int 0, .int 0, .int 0, .int 0, .int 0, .int 0] dX1_rings_163 rfl (lkA q973) (lkA q979) (lkA q96) (fun j hj => match j, hj with | 0, _ => rfl | 1, _ => rfl | 2, _ => rfl | 3, _ => rfl | 4, _ => rfl | 5, _ => rfl | 6, _ => rfl | k + 7, hk => absurd hk (Nat.not_lt.mpr (Nat.le_add_left 7 k))) (Nat.le_of_ble_eq_true rfl) (fun q163 hq163 => ?_)
          refine r_dup dX1_rings_166 rfl ?_
          refine r_iload_n dX1_rings_167 rfl ?_
          first | refine r_aload dX1_rings_168 rfl ?_ | refine r_aloadq dX1_rings_168 rfl ?_ | refine r_aloadN dX1_rings_168 rfl ?_
          refine r_getfieldN 2 0 dX1_rings_170 rfl (Nat.le_of_ble_eq_true rfl) (lkT q208 rfl) (Or.inl rfl) (Or.inl (hu_o hq163 (c_h iB P hP20))) (by rfl) ?_
          refine r_iload_n dX1_rings_173 rfl ?_
          refine r_iload dX1_rings_174 rfl ?_
          refine r_iload_n dX1_rings_176 rfl ?_
          first | refine r_aload_n dX1_rings_177 rfl ?_ | refine r_aload_nq dX1_rings_177 rfl ?_ | refine r_aload_nN dX1_rings_177 rfl ?_
          refine r_getfield 1 4 dX1_rings_178 rfl (Nat.le_of_ble_eq_true rfl) (lkA q304) (Or.inl rfl) (Or.inl (hu_o hq163 (c_0 iB))) (show _ = some (Value.int (w 0)) from congrArg (fun z => some (Value.int z)) ((cB_23 (by omega)).trans (ringr_o (by omega) (by omega)))) ?_
          refine r_invI dX1_rings_181 (sp_X5_init hu_s) rfl mo_X5_init (lkA q1381) (lkA q981) rfl rfl rfl (lkA q96) mp_X5_init (Nat.le_of_ble_eq_true rfl) (Nat.le_of_ble_eq_true rfl) (Nat.le_of_ble_eq_true rfl) (kr_e ?_) kx_e
          try simp only [hu_hu]
          rw [cH_new hq163]
          refine r_invV dX1_rings_184 (sp_X1_sells iB (tn x) b hS.2.2.1 (by rw [cB_23 (by omega)]; exact hsr) hb q163 (it_F hq163) hu_s (by rw [cB_23 (by omega), ringr_o (by omega) (by omega)]; exact hN3) (by rw [cB_23 (by omega), ringr_o (by omega) (by omega)]; exact hN40)) rfl mo_X1_sells (Or.inl (c_0 iB)) rfl (lkA q1382) (lkA q1384) (lkA qs20) rfl (lkA q65) mp_X1_sells (Nat.le_of_ble_eq_true rfl) (Nat.le_of_ble_eq_true rfl) (Nat.le_of_ble_eq_true rfl) (kr_r (fun v9 h9 p9 => ?_)) kx_r
          obtain ⟨rfl, qn, hqn, hA⟩ := p9
          refine r_iload dX1_rings_187 rfl ?_
          exact r_ireturn dX1_rings_189 rfl (by first | rfl | exact bi_nar) (by have el : gListens w (tn x) P = true := (gL_ring hS.2.2.1 hP20).symm.trans (bi_n0.mp c124); rw [show oRings w x (nI b) z = oK (gWants w (tn x) P b z) (gSale (gRing0 w) (tn x) P b (gWants w (tn x) P b z) z) by unfold oRings; rw [if_pos ⟨hS.1, hB⟩, if_pos hZ, hPt, hbt]; unfold gRingR; rw [if_neg g1, if_neg g2, if_neg (show ¬ gSl w (tn x) (3 + b) = 0 from c57), if_neg c80, if_pos el, if_neg (fun e => hz (by rw [e]; decide))]]; exact ⟨rfl, ring_end hi hS.2.2.1 hP20 hb hS.2.1 h24 hN3 hN40 hq163 hqn hA⟩)
      · first | refine r_aload dX1_rings_127 rfl ?_ | refine r_aloadq dX1_rings_127 rfl ?_ | refine r_aloadN dX1_rings_127 rfl ?_
        refine r_iconst (v := (-1)) dX1_rings_129 rfl ?_
        refine r_invV dX1_rings_130 (sp_X2_pleases (c_h ir P hP20)) rfl mo_X2_pleases (Or.inl (c_h ir P hP20)) rfl (lkA q1363) (lkA q1364) (lkA q1365) rfl (lkA q71) mp_X2_pleases (Nat.le_of_ble_eq_true rfl) (Nat.le_of_ble_eq_true rfl) (Nat.le_of_ble_eq_true rfl) (kr_e ?_) kx_e
        rw [cu_h0 ir P hP20]
        refine r_iconst (v := 0) dX1_rings_133 rfl ?_
        exact r_ireturn dX1_rings_134 rfl (by first | rfl | exact bi_nar) (by have el : gListens w (tn x) P = false := (gL_ring hS.2.2.1 hP20).symm.trans (bi_0.mp c124); rw [show oRings w x (nI b) z = oK 0 (gCalm (gRing0 w) P (-1)) by unfold oRings; rw [if_pos ⟨hS.1, hB⟩, if_pos hZ, hPt, hbt]; unfold gRingR; rw [if_neg g1, if_neg g2, if_neg (show ¬ gSl w (tn x) (3 + b) = 0 from c57), if_neg c80, if_neg (by rw [el]; decide)]]; exact ⟨rfl, cP_same hi (by show upd _ _ _ 2 = _; rw [upd_n (by omega), ringr_o (by omega) (by omega)]) (by show upd _ _ _ 3 = _; rw [upd_n (by omega), ringr_o (by omega) (by omega)]) Ext.rf⟩)
    · refine r_iconst (v := 1) dX1_rings_83 rfl ?_
      refine r_goto 88 dX1_rings_84 rfl ?_
      refine r_iconst (v := 1) dX1_rings_88 rfl ?_
      refine r_bipush (v := 40) dX1_rings_89 rfl ?_
      refine r_invSN dX1_rings_91 (sp_X0_refuse1 hK) rfl mo_X0_refuse (lkT q1051 rfl) (lkA q1052) rfl (lkA q64) mp_X0_refuse (Nat.le_of_ble_eq_true rfl) (Nat.le_of_ble_eq_true rfl) (Nat.le_of_ble_eq_true rfl) (fun v9 h9 p9 => ?_) (fun q9 h9 ci9 fs9 p9 hq9 => (by obtain ⟨e2, rfl⟩ := p9; refine r_out hq9 rfl ?_; rw [show oRings w x (nI b) z = oR 1 40 by unfold oRings; rw [if_pos ⟨hS.1, hB⟩, if_pos hZ, hPt, hbt]; unfold gRingR; rw [if_neg g1, if_neg g2, if_neg (show ¬ gSl w (tn x) (3 + b) = 0 from c57), if_pos c80]]; exact oQ_ref Ext.rf e2))
      exact p9.elim
  · refine r_iconst (v := 1) dX1_rings_60 rfl ?_
    refine r_goto 65 dX1_rings_61 rfl ?_
    refine r_bipush (v := 7) dX1_rings_65 rfl ?_
    refine r_iconst (v := 0) dX1_rings_67 rfl ?_
    refine r_invSN dX1_rings_68 (sp_X0_refuse1 hK) rfl mo_X0_refuse (lkT q1051 rfl) (lkA q1052) rfl (lkA q64) mp_X0_refuse (Nat.le_of_ble_eq_true rfl) (Nat.le_of_ble_eq_true rfl) (Nat.le_of_ble_eq_true rfl) (fun v9 h9 p9 => ?_) (fun q9 h9 ci9 fs9 p9 hq9 => (by obtain ⟨e2, rfl⟩ := p9; refine r_out hq9 rfl ?_; rw [show oRings w x (nI b) z = oR 7 0 by unfold oRings; rw [if_pos ⟨hS.1, hB⟩, if_pos hZ, hPt, hbt]; unfold gRingR; rw [if_neg g1, if_neg g2, if_pos (show gSl w (tn x) (3 + b) = 0 from c57)]]; exact oQ_ref Ext.rf e2))
    exact p9.elim

