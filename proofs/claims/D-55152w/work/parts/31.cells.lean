set_option maxRecDepth 100000
/-! ===== the component's side: the cells of one company, told by its addresses and its state ===== -/
def gDg (w : Nat → Int32) (h : Nat) : Int32 := if gMd w h < 0 then -15 else gMd w h
abbrev cCo (ad : Nat → Nat) (w : Nat → Int32) : Bd := bO 1 [.ref (ad 1), .ref (ad 3), .ref (ad 5), .ref (ad 6), .int (w 0), .int (w 1), .int (w 4), .int (w 9), .int (w 10), .int (w 11), .int (w 5), .int (w 8), .int (w 12), .int (w 13)]
abbrev cHo (ad : Nat → Nat) (w : Nat → Int32) (h : Nat) : Bd := bO 2 [.int (nI h), .int (w (53 + 4 * h)), .int (gDg w h), .int (w (53 + 4 * h + 2)), .ref (ad (30 + h))]
abbrev cSe (ad : Nat → Nat) (w : Nat → Int32) (s : Nat) : Bd := bO 4 [.int (w (17 + 9 * s)), .int (w (17 + 9 * s + 1)), .int (w (17 + 9 * s + 2)), .ref (ad (74 + s)), .int (w (17 + 9 * s + 6)), .int (w (17 + 9 * s + 7)), .int (w (17 + 9 * s + 8))]
def fBr (w : Nat → Int32) (s : Nat) : Nat → Int32 := fun b => if b < 3 then w (17 + 9 * s + (3 + b)) else 0
def fDp (w : Nat → Int32) : Nat → Int32 := fun b => if b < 3 then w (14 + b) else 0
abbrev cSa (w : Nat → Int32) (i : Nat) : Bd := bO 5 [.int (w (133 + 7 * i)), .int (w (133 + 7 * i + 1)), .int (w (133 + 7 * i + 2)), .int (w (133 + 7 * i + 3)), .int (w (133 + 7 * i + 4)), .int (w (133 + 7 * i + 5)), .int (w (133 + 7 * i + 6))]
abbrev nd (ad : Nat → Nat) : Nat → Nat := fun i => ad (81 + 2 * i)
abbrev its (ad : Nat → Nat) : Nat → Nat := fun i => ad (80 + 2 * i)
def fHs (ad : Nat → Nat) (n : Nat) : Nat → Option Nat := fun j => if j < n then some (ad (10 + j)) else none
def fSs (ad : Nat → Nat) (n : Nat) : Nat → Option Nat := fun j => if j < n then some (ad (70 + j)) else none
def ccell (ad : Nat → Nat) (w : Nat → Int32) (k : Nat) : Bd :=
  if k = 0 then cCo ad w else if k = 1 then bO 10 [.int 20, .ref (ad 2), .int 20] else if k = 2 then bR 3 20 (fHs ad 20)
  else if k = 3 then bO 10 [.int (w 2), .ref (ad 4), .int (w 2)] else if k = 4 then bR 3 4 (fSs ad (tn (w 2)))
  else if k = 5 then bLL (w 3) (w 3) (nd ad) (tn (w 3)) else if k = 6 then bI 0 3 (fDp w)
  else if k < 30 then cHo ad w (k - 10) else if k < 50 then bBs (ad (k + 20)) (w (53 + 4 * (k - 30) + 3)) else if k < 70 then bWd (w (53 + 4 * (k - 50) + 3))
  else if k < 74 then cSe ad w (k - 70) else if k < 78 then bI 0 3 (fBr w (k - 74))
  else if k % 2 = 0 then cSa w ((k - 80) / 2) else bNd (nd ad) (its ad) (tn (w 3)) ((k - 80) / 2)
def cdm (s l : Nat) (k : Nat) : Bool := decide (k < 7 ∨ (10 ≤ k ∧ k < 70) ∨ (70 ≤ k ∧ k < 74 ∧ k - 70 < s) ∨ (74 ≤ k ∧ k < 78 ∧ k - 74 < s) ∨ (80 ≤ k ∧ (k - 80) / 2 < l))
abbrev cdom (w : Nat → Int32) : Nat → Bool := cdm (tn (w 2)) (tn (w 3))
abbrev cF (ad : Nat → Nat) (w : Nat → Int32) : HP := fam 160 (cdom w) ad (ccell ad w)
abbrev cH (ad : Nat → Nat) (w : Nat → Int32) (h : HP) : HP := ov (cF ad w) h
abbrev cI (ad : Nat → Nat) (w : Nat → Int32) : Prop := inj 160 (cdom w) ad
theorem cdm_i {s l k : Nat} (h : k < 7 ∨ (10 ≤ k ∧ k < 70) ∨ (70 ≤ k ∧ k < 74 ∧ k - 70 < s) ∨ (74 ≤ k ∧ k < 78 ∧ k - 74 < s) ∨ (80 ≤ k ∧ (k - 80) / 2 < l)) : cdm s l k = true := decide_eq_true h
theorem cdm_e {s l k : Nat} (h : cdm s l k = true) : k < 7 ∨ (10 ≤ k ∧ k < 70) ∨ (70 ≤ k ∧ k < 74 ∧ k - 70 < s) ∨ (74 ≤ k ∧ k < 78 ∧ k - 74 < s) ∨ (80 ≤ k ∧ (k - 80) / 2 < l) := of_decide_eq_true h
theorem cdm_f {s l k : Nat} (h : ¬ (k < 7 ∨ (10 ≤ k ∧ k < 70) ∨ (70 ≤ k ∧ k < 74 ∧ k - 70 < s) ∨ (74 ≤ k ∧ k < 78 ∧ k - 74 < s) ∨ (80 ≤ k ∧ (k - 80) / 2 < l))) : cdm s l k = false := decide_eq_false h
theorem cc_h {ad : Nat → Nat} {w : Nat → Int32} {k : Nat} (hk : k < 20) : ccell ad w (10 + k) = cHo ad w k := by
  unfold ccell
  rw [if_neg (by omega), if_neg (by omega), if_neg (by omega), if_neg (by omega), if_neg (by omega), if_neg (by omega), if_neg (by omega), if_pos (by omega), show 10 + k - 10 = k by omega]
theorem c_h {ad : Nat → Nat} {w : Nat → Int32} {h : HP} (hi : cI ad w) (k : Nat) (hk : k < 20) : cH ad w h (ad (10 + k)) = some (cHo ad w k) := by
  exact (ov_s (fam_at (10 + k) hi (by omega) (cdm_i (by omega)))).trans (congrArg some (cc_h hk))
theorem cc_b {ad : Nat → Nat} {w : Nat → Int32} {k : Nat} (hk : k < 20) : ccell ad w (30 + k) = bBs (ad (50 + k)) (w (53 + 4 * k + 3)) := by
  unfold ccell
  rw [if_neg (by omega), if_neg (by omega), if_neg (by omega), if_neg (by omega), if_neg (by omega), if_neg (by omega), if_neg (by omega), if_neg (by omega), if_pos (by omega), show 30 + k + 20 = 50 + k by omega, show 30 + k - 30 = k by omega]
theorem c_b {ad : Nat → Nat} {w : Nat → Int32} {h : HP} (hi : cI ad w) (k : Nat) (hk : k < 20) : cH ad w h (ad (30 + k)) = some (bBs (ad (50 + k)) (w (53 + 4 * k + 3))) := by
  exact (ov_s (fam_at (30 + k) hi (by omega) (cdm_i (by omega)))).trans (congrArg some (cc_b hk))
theorem cc_w {ad : Nat → Nat} {w : Nat → Int32} {k : Nat} (hk : k < 20) : ccell ad w (50 + k) = bWd (w (53 + 4 * k + 3)) := by
  unfold ccell
  rw [if_neg (by omega), if_neg (by omega), if_neg (by omega), if_neg (by omega), if_neg (by omega), if_neg (by omega), if_neg (by omega), if_neg (by omega), if_neg (by omega), if_pos (by omega), show 50 + k - 50 = k by omega]
theorem c_w {ad : Nat → Nat} {w : Nat → Int32} {h : HP} (hi : cI ad w) (k : Nat) (hk : k < 20) : cH ad w h (ad (50 + k)) = some (bWd (w (53 + 4 * k + 3))) := by
  exact (ov_s (fam_at (50 + k) hi (by omega) (cdm_i (by omega)))).trans (congrArg some (cc_w hk))
theorem cc_s {ad : Nat → Nat} {w : Nat → Int32} {k : Nat} (hk : k < 4) : ccell ad w (70 + k) = cSe ad w k := by
  unfold ccell
  rw [if_neg (by omega), if_neg (by omega), if_neg (by omega), if_neg (by omega), if_neg (by omega), if_neg (by omega), if_neg (by omega), if_neg (by omega), if_neg (by omega), if_neg (by omega), if_pos (by omega), show 70 + k - 70 = k by omega]
theorem c_s {ad : Nat → Nat} {w : Nat → Int32} {h : HP} (hi : cI ad w) (k : Nat) (hk : k < 4) (hs : k < tn (w 2)) : cH ad w h (ad (70 + k)) = some (cSe ad w k) := by
  exact (ov_s (fam_at (70 + k) hi (by omega) (cdm_i (by omega)))).trans (congrArg some (cc_s hk))
theorem cc_r {ad : Nat → Nat} {w : Nat → Int32} {k : Nat} (hk : k < 4) : ccell ad w (74 + k) = bI 0 3 (fBr w k) := by
  unfold ccell
  rw [if_neg (by omega), if_neg (by omega), if_neg (by omega), if_neg (by omega), if_neg (by omega), if_neg (by omega), if_neg (by omega), if_neg (by omega), if_neg (by omega), if_neg (by omega), if_neg (by omega), if_pos (by omega), show 74 + k - 74 = k by omega]
theorem c_r {ad : Nat → Nat} {w : Nat → Int32} {h : HP} (hi : cI ad w) (k : Nat) (hk : k < 4) (hs : k < tn (w 2)) : cH ad w h (ad (74 + k)) = some (bI 0 3 (fBr w k)) := by
  exact (ov_s (fam_at (74 + k) hi (by omega) (cdm_i (by omega)))).trans (congrArg some (cc_r hk))
theorem cc_l {ad : Nat → Nat} {w : Nat → Int32} {k : Nat} (hk : k < 40) : ccell ad w (80 + 2 * k) = cSa w k := by
  unfold ccell
  rw [if_neg (by omega), if_neg (by omega), if_neg (by omega), if_neg (by omega), if_neg (by omega), if_neg (by omega), if_neg (by omega), if_neg (by omega), if_neg (by omega), if_neg (by omega), if_neg (by omega), if_neg (by omega), if_pos (by omega), show (80 + 2 * k - 80) / 2 = k by omega]
theorem c_l {ad : Nat → Nat} {w : Nat → Int32} {h : HP} (hi : cI ad w) (k : Nat) (hk : k < 40) (hs : k < tn (w 3)) : cH ad w h (ad (80 + 2 * k)) = some (cSa w k) := by
  exact (ov_s (fam_at (80 + 2 * k) hi (by omega) (cdm_i (by omega)))).trans (congrArg some (cc_l hk))
theorem cc_n {ad : Nat → Nat} {w : Nat → Int32} {k : Nat} (hk : k < 40) : ccell ad w (81 + 2 * k) = bNd (nd ad) (its ad) (tn (w 3)) k := by
  unfold ccell
  rw [if_neg (by omega), if_neg (by omega), if_neg (by omega), if_neg (by omega), if_neg (by omega), if_neg (by omega), if_neg (by omega), if_neg (by omega), if_neg (by omega), if_neg (by omega), if_neg (by omega), if_neg (by omega), if_neg (by omega), show (81 + 2 * k - 80) / 2 = k by omega]
theorem c_n {ad : Nat → Nat} {w : Nat → Int32} {h : HP} (hi : cI ad w) (k : Nat) (hk : k < 40) (hs : k < tn (w 3)) : cH ad w h (ad (81 + 2 * k)) = some (bNd (nd ad) (its ad) (tn (w 3)) k) := by
  exact (ov_s (fam_at (81 + 2 * k) hi (by omega) (cdm_i (by omega)))).trans (congrArg some (cc_n hk))
theorem cc_0 {ad : Nat → Nat} {w : Nat → Int32} : ccell ad w 0 = cCo ad w := by
  unfold ccell
  rw [if_pos rfl]
theorem c_0 {ad : Nat → Nat} {w : Nat → Int32} {h : HP} (hi : cI ad w) : cH ad w h (ad 0) = some (cCo ad w) :=
  (ov_s (fam_at 0 hi (by decide) (cdm_i (by omega)))).trans (congrArg some cc_0)
theorem cc_1 {ad : Nat → Nat} {w : Nat → Int32} : ccell ad w 1 = bO 10 [.int 20, .ref (ad 2), .int 20] := by
  unfold ccell
  rw [if_neg (by decide), if_pos rfl]
theorem c_1 {ad : Nat → Nat} {w : Nat → Int32} {h : HP} (hi : cI ad w) : cH ad w h (ad 1) = some (bO 10 [.int 20, .ref (ad 2), .int 20]) :=
  (ov_s (fam_at 1 hi (by decide) (cdm_i (by omega)))).trans (congrArg some cc_1)
theorem cc_2 {ad : Nat → Nat} {w : Nat → Int32} : ccell ad w 2 = bR 3 20 (fHs ad 20) := by
  unfold ccell
  rw [if_neg (by decide), if_neg (by decide), if_pos rfl]
theorem c_2 {ad : Nat → Nat} {w : Nat → Int32} {h : HP} (hi : cI ad w) : cH ad w h (ad 2) = some (bR 3 20 (fHs ad 20)) :=
  (ov_s (fam_at 2 hi (by decide) (cdm_i (by omega)))).trans (congrArg some cc_2)
theorem cc_3 {ad : Nat → Nat} {w : Nat → Int32} : ccell ad w 3 = bO 10 [.int (w 2), .ref (ad 4), .int (w 2)] := by
  unfold ccell
  rw [if_neg (by decide), if_neg (by decide), if_neg (by decide), if_pos rfl]
theorem c_3 {ad : Nat → Nat} {w : Nat → Int32} {h : HP} (hi : cI ad w) : cH ad w h (ad 3) = some (bO 10 [.int (w 2), .ref (ad 4), .int (w 2)]) :=
  (ov_s (fam_at 3 hi (by decide) (cdm_i (by omega)))).trans (congrArg some cc_3)
theorem cc_4 {ad : Nat → Nat} {w : Nat → Int32} : ccell ad w 4 = bR 3 4 (fSs ad (tn (w 2))) := by
  unfold ccell
  rw [if_neg (by decide), if_neg (by decide), if_neg (by decide), if_neg (by decide), if_pos rfl]
theorem c_4 {ad : Nat → Nat} {w : Nat → Int32} {h : HP} (hi : cI ad w) : cH ad w h (ad 4) = some (bR 3 4 (fSs ad (tn (w 2)))) :=
  (ov_s (fam_at 4 hi (by decide) (cdm_i (by omega)))).trans (congrArg some cc_4)
theorem cc_5 {ad : Nat → Nat} {w : Nat → Int32} : ccell ad w 5 = bLL (w 3) (w 3) (nd ad) (tn (w 3)) := by
  unfold ccell
  rw [if_neg (by decide), if_neg (by decide), if_neg (by decide), if_neg (by decide), if_neg (by decide), if_pos rfl]
theorem c_5 {ad : Nat → Nat} {w : Nat → Int32} {h : HP} (hi : cI ad w) : cH ad w h (ad 5) = some (bLL (w 3) (w 3) (nd ad) (tn (w 3))) :=
  (ov_s (fam_at 5 hi (by decide) (cdm_i (by omega)))).trans (congrArg some cc_5)
theorem cc_6 {ad : Nat → Nat} {w : Nat → Int32} : ccell ad w 6 = bI 0 3 (fDp w) := by
  unfold ccell
  rw [if_neg (by decide), if_neg (by decide), if_neg (by decide), if_neg (by decide), if_neg (by decide), if_neg (by decide), if_pos rfl]
theorem c_6 {ad : Nat → Nat} {w : Nat → Int32} {h : HP} (hi : cI ad w) : cH ad w h (ad 6) = some (bI 0 3 (fDp w)) :=
  (ov_s (fam_at 6 hi (by decide) (cdm_i (by omega)))).trans (congrArg some cc_6)
/-- the cell that shows a place of the state (of two, the first) -/
def owr (i : Nat) : Nat := if i < 14 then (if i = 2 then 3 else if i = 3 then 5 else if i = 6 ∨ i = 7 then 200 else 0) else if i < 17 then 6
  else if i < 53 then (if 3 ≤ (i - 17) % 9 ∧ (i - 17) % 9 < 6 then 74 + (i - 17) / 9 else 70 + (i - 17) / 9)
  else if i < 133 then (if (i - 53) % 4 = 3 then 30 + (i - 53) / 4 else 10 + (i - 53) / 4) else 80 + 2 * ((i - 133) / 7)
def key (j : Nat) : Nat := if 50 ≤ j ∧ j < 70 then j - 20 else if j = 4 then 3 else if 80 ≤ j ∧ j % 2 = 1 then 5 else j
theorem ow_h {h : Nat} (m : Nat) (hh : h < 20) (hm : m < 3) : owr (53 + 4 * h + m) = 10 + h := by
  unfold owr
  rw [if_neg (by omega), if_neg (by omega), if_neg (by omega), if_pos (by omega), if_neg (by omega)]
  omega
theorem ow_b {h : Nat} (hh : h < 20) : owr (53 + 4 * h + 3) = 30 + h := by
  unfold owr
  rw [if_neg (by omega), if_neg (by omega), if_neg (by omega), if_pos (by omega), if_pos (by omega)]
  omega
theorem ow_s {s : Nat} (m : Nat) (hs : s < 4) (hm : m < 3 ∨ (6 ≤ m ∧ m < 9)) : owr (17 + 9 * s + m) = 70 + s := by
  unfold owr
  rw [if_neg (by omega), if_neg (by omega), if_pos (by omega), if_neg (by omega)]
  omega
theorem ow_r {s : Nat} (m : Nat) (hs : s < 4) (hm : m < 3) : owr (17 + 9 * s + (3 + m)) = 74 + s := by
  unfold owr
  rw [if_neg (by omega), if_neg (by omega), if_pos (by omega), if_pos (by omega)]
  omega
theorem ow_l {i : Nat} (m : Nat) (hm : m < 7) : owr (133 + 7 * i + m) = 80 + 2 * i := by
  unfold owr
  rw [if_neg (by omega), if_neg (by omega), if_neg (by omega), if_neg (by omega)]
  omega
theorem ow_d (m : Nat) (hm : m < 3) : owr (14 + m) = 6 := by
  unfold owr
  rw [if_neg (by omega), if_pos (by omega)]
theorem key_1 {j : Nat} (h : j < 4 ∨ (5 ≤ j ∧ j < 50) ∨ (70 ≤ j ∧ j < 80) ∨ (80 ≤ j ∧ j % 2 = 0)) : key j = j := by
  unfold key
  rw [if_neg (by omega), if_neg (by omega), if_neg (by omega)]
theorem key_i {j k : Nat} (hk : k = 0 ∨ k = 6 ∨ (10 ≤ k ∧ k < 30) ∨ (70 ≤ k ∧ k < 80) ∨ (80 ≤ k ∧ k % 2 = 0)) (e : k = key j) : j = k := by
  unfold key at e
  by_cases e1 : 50 ≤ j ∧ j < 70
  · rw [if_pos e1] at e; omega
  · rw [if_neg e1] at e
    by_cases e2 : j = 4
    · rw [if_pos e2] at e; omega
    · rw [if_neg e2] at e
      by_cases e3 : 80 ≤ j ∧ j % 2 = 1
      · rw [if_pos e3] at e; omega
      · rw [if_neg e3] at e; exact e.symm
theorem cg_h {ad : Nat → Nat} {w w' : Nat → Int32} {k : Nat} (h : k < 20) (e : ∀ i, owr i = 10 + k → w i = w' i) : cHo ad w k = cHo ad w' k := by
  have hg : gDg w k = gDg w' k := by
    unfold gDg gMd
    rw [e (53 + 4 * k + 1) (ow_h 1 h (by decide))]
  rw [cHo, cHo, hg, e (53 + 4 * k) (ow_h 0 h (by decide)), e (53 + 4 * k + 2) (ow_h 2 h (by decide))]
theorem cg_s {ad : Nat → Nat} {w w' : Nat → Int32} {k : Nat} (h : k < 4) (e : ∀ i, owr i = 70 + k → w i = w' i) : cSe ad w k = cSe ad w' k := by
  rw [cSe, cSe, e (17 + 9 * k) (ow_s 0 h (by decide)), e (17 + 9 * k + 1) (ow_s 1 h (by decide)), e (17 + 9 * k + 2) (ow_s 2 h (by decide)), e (17 + 9 * k + 6) (ow_s 6 h (by decide)), e (17 + 9 * k + 7) (ow_s 7 h (by decide)), e (17 + 9 * k + 8) (ow_s 8 h (by decide))]
theorem cg_r {w w' : Nat → Int32} {k : Nat} (h : k < 4) (e : ∀ i, owr i = 74 + k → w i = w' i) : fBr w k = fBr w' k := by
  funext b
  unfold fBr
  by_cases hb : b < 3
  · rw [if_pos hb, if_pos hb, e _ (ow_r b h hb)]
  · rw [if_neg hb, if_neg hb]
theorem cg_d {w w' : Nat → Int32} (e : ∀ i, owr i = 6 → w i = w' i) : fDp w = fDp w' := by
  funext b
  unfold fDp
  by_cases hb : b < 3
  · rw [if_pos hb, if_pos hb, e _ (ow_d b hb)]
  · rw [if_neg hb, if_neg hb]
theorem cg_l {w w' : Nat → Int32} {k : Nat} (e : ∀ i, owr i = 80 + 2 * k → w i = w' i) : cSa w k = cSa w' k := by
  rw [cSa, cSa, e (133 + 7 * k) (ow_l 0 (by decide)), e (133 + 7 * k + 1) (ow_l 1 (by decide)), e (133 + 7 * k + 2) (ow_l 2 (by decide)), e (133 + 7 * k + 3) (ow_l 3 (by decide)), e (133 + 7 * k + 4) (ow_l 4 (by decide)), e (133 + 7 * k + 5) (ow_l 5 (by decide)), e (133 + 7 * k + 6) (ow_l 6 (by decide))]
theorem cg_0 {ad : Nat → Nat} {w w' : Nat → Int32} (e : ∀ i, owr i = 0 → w i = w' i) : cCo ad w = cCo ad w' := by
  rw [cCo, cCo, e 0 rfl, e 1 rfl, e 4 rfl, e 5 rfl, e 8 rfl, e 9 rfl, e 10 rfl, e 11 rfl, e 12 rfl, e 13 rfl]
/-- the codes of the cells -/
theorem cds {j : Nat} (hj : j < 160) (h : j < 7 ∨ (10 ≤ j ∧ j < 78) ∨ (80 ≤ j)) : j < 7 ∨ (∃ k, k < 20 ∧ j = 10 + k) ∨ (∃ k, k < 20 ∧ j = 30 + k) ∨ (∃ k, k < 20 ∧ j = 50 + k) ∨ (∃ k, k < 4 ∧ j = 70 + k) ∨ (∃ k, k < 4 ∧ j = 74 + k) ∨ (∃ k, k < 40 ∧ j = 80 + 2 * k) ∨ (∃ k, k < 40 ∧ j = 81 + 2 * k) := by
  by_cases h1 : j < 7
  · exact Or.inl h1
  refine Or.inr ?_
  by_cases h2 : j < 30
  · exact Or.inl ⟨j - 10, by omega, by omega⟩
  refine Or.inr ?_
  by_cases h3 : j < 50
  · exact Or.inl ⟨j - 30, by omega, by omega⟩
  refine Or.inr ?_
  by_cases h4 : j < 70
  · exact Or.inl ⟨j - 50, by omega, by omega⟩
  refine Or.inr ?_
  by_cases h5 : j < 74
  · exact Or.inl ⟨j - 70, by omega, by omega⟩
  refine Or.inr ?_
  by_cases h6 : j < 78
  · exact Or.inl ⟨j - 74, by omega, by omega⟩
  refine Or.inr ?_
  by_cases h7 : j % 2 = 0
  · exact Or.inl ⟨(j - 80) / 2, by omega, by omega⟩
  · exact Or.inr ⟨(j - 81) / 2, by omega, by omega⟩
theorem ccell_cg {ad : Nat → Nat} {w w' : Nat → Int32} {j : Nat} (hj : j < 160) (hd : j < 7 ∨ (10 ≤ j ∧ j < 78) ∨ (80 ≤ j)) (e : ∀ i, owr i = key j → w i = w' i) : ccell ad w j = ccell ad w' j := by
  rcases cds hj hd with h | ⟨k, hk, rfl⟩ | ⟨k, hk, rfl⟩ | ⟨k, hk, rfl⟩ | ⟨k, hk, rfl⟩ | ⟨k, hk, rfl⟩ | ⟨k, hk, rfl⟩ | ⟨k, hk, rfl⟩
  · match j, h, e with
    | 0, _, e => rw [cc_0, cc_0]; exact cg_0 (fun i hi => e i (hi.trans (key_1 (by omega)).symm))
    | 1, _, _ => rw [cc_1, cc_1]
    | 2, _, _ => rw [cc_2, cc_2]
    | 3, _, e => rw [cc_3, cc_3, e 2 ((show owr 2 = 3 from rfl).trans (key_1 (by omega)).symm)]
    | 4, _, e => rw [cc_4, cc_4, e 2 ((show owr 2 = 3 from rfl).trans (show 3 = key 4 from rfl))]
    | 5, _, e => rw [cc_5, cc_5, e 3 ((show owr 3 = 5 from rfl).trans (key_1 (by omega)).symm)]
    | 6, _, e => rw [cc_6, cc_6, cg_d (fun i hi => e i (hi.trans (key_1 (by omega)).symm))]
  · rw [cc_h hk, cc_h hk]
    exact cg_h hk (fun i hi => e i (hi.trans (key_1 (by omega)).symm))
  · rw [cc_b hk, cc_b hk, e _ ((ow_b hk).trans (key_1 (by omega)).symm)]
  · rw [cc_w hk, cc_w hk, e _ ((ow_b hk).trans (by unfold key; rw [if_pos (by omega)]; omega))]
  · rw [cc_s hk, cc_s hk]
    exact cg_s hk (fun i hi => e i (hi.trans (key_1 (by omega)).symm))
  · rw [cc_r hk, cc_r hk, cg_r hk (fun i hi => e i (hi.trans (key_1 (by omega)).symm))]
  · rw [cc_l hk, cc_l hk]
    exact cg_l (fun i hi => e i (hi.trans (key_1 (by omega)).symm))
  · rw [cc_n hk, cc_n hk, e 3 (by unfold key; rw [if_neg (by omega), if_neg (by omega), if_pos (by omega)]; rfl)]
theorem cdm_hj {s l j : Nat} (h : cdm s l j = true) : j < 7 ∨ (10 ≤ j ∧ j < 78) ∨ (80 ≤ j) := by
  have := cdm_e h
  omega
/-- one place of the state changed: one cell changed -/
theorem cu {ad : Nat → Nat} {w : Nat → Int32} {h : HP} {b : Bd} {v : Int32} (hi : cI ad w) (k ix : Nat) (hk : k < 160) (hd : cdom w k = true) (h2 : ix ≠ 2) (h3 : ix ≠ 3) (hkk : k = 0 ∨ k = 6 ∨ (10 ≤ k ∧ k < 30) ∨ (70 ≤ k ∧ k < 80) ∨ (80 ≤ k ∧ k % 2 = 0)) (ho : owr ix = k) (hb : ccell ad (upd w ix v) k = b) : hu (cH ad w h) (ad k) b = cH ad (upd w ix v) h := by
  rw [hu_ov]
  congr 1
  have e : cdom (upd w ix v) = cdom w := by rw [cdom, upd_n (Ne.symm h2), upd_n (Ne.symm h3)]
  rw [cF, cF, e]
  exact fam_up k hi hk hd hb (fun j hj hdj hjk => ccell_cg hj (cdm_hj hdj) (fun i hr => upd_n (fun e2 => hjk (key_i hkk (by rw [← ho, ← e2]; exact hr)))))
/-- a place that no cell shows -/
theorem cu0 {ad : Nat → Nat} {w : Nat → Int32} {h : HP} {v : Int32} (ix : Nat) (h2 : ix ≠ 2) (h3 : ix ≠ 3) (ho : owr ix = 200) : cH ad (upd w ix v) h = cH ad w h := by
  have e : cdom (upd w ix v) = cdom w := by rw [cdom, upd_n (Ne.symm h2), upd_n (Ne.symm h3)]
  rw [cH, cF, e]
  congr 1
  exact fam_cg (fun j hj hdj => ccell_cg hj (cdm_hj hdj) (fun i hr => upd_n (fun e2 => by rw [e2, ho] at hr; unfold key at hr; (repeat' split at hr) <;> omega)))
theorem cI_u {ad : Nat → Nat} {w : Nat → Int32} {v : Int32} {ix : Nat} (hi : cI ad w) (h2 : ix ≠ 2) (h3 : ix ≠ 3) : cI ad (upd w ix v) := by
  have e : cdom (upd w ix v) = cdom w := by rw [cdom, upd_n (Ne.symm h2), upd_n (Ne.symm h3)]
  rw [cI, e]
  exact hi
theorem cu_0 {ad : Nat → Nat} {w : Nat → Int32} {h : HP} {v : Int32} (hi : cI ad w) : hu (cH ad w h) (ad 0) (bO 1 [.ref (ad 1), .ref (ad 3), .ref (ad 5), .ref (ad 6), .int v, .int (w 1), .int (w 4), .int (w 9), .int (w 10), .int (w 11), .int (w 5), .int (w 8), .int (w 12), .int (w 13)]) = cH ad (upd w 0 v) h :=
  cu hi 0 0 (by decide) (cdm_i (by omega)) (by decide) (by decide) (Or.inl rfl) rfl cc_0
theorem cu_1 {ad : Nat → Nat} {w : Nat → Int32} {h : HP} {v : Int32} (hi : cI ad w) : hu (cH ad w h) (ad 0) (bO 1 [.ref (ad 1), .ref (ad 3), .ref (ad 5), .ref (ad 6), .int (w 0), .int v, .int (w 4), .int (w 9), .int (w 10), .int (w 11), .int (w 5), .int (w 8), .int (w 12), .int (w 13)]) = cH ad (upd w 1 v) h :=
  cu hi 0 1 (by decide) (cdm_i (by omega)) (by decide) (by decide) (Or.inl rfl) rfl cc_0
theorem cu_4 {ad : Nat → Nat} {w : Nat → Int32} {h : HP} {v : Int32} (hi : cI ad w) : hu (cH ad w h) (ad 0) (bO 1 [.ref (ad 1), .ref (ad 3), .ref (ad 5), .ref (ad 6), .int (w 0), .int (w 1), .int v, .int (w 9), .int (w 10), .int (w 11), .int (w 5), .int (w 8), .int (w 12), .int (w 13)]) = cH ad (upd w 4 v) h :=
  cu hi 0 4 (by decide) (cdm_i (by omega)) (by decide) (by decide) (Or.inl rfl) rfl cc_0
theorem cu_9 {ad : Nat → Nat} {w : Nat → Int32} {h : HP} {v : Int32} (hi : cI ad w) : hu (cH ad w h) (ad 0) (bO 1 [.ref (ad 1), .ref (ad 3), .ref (ad 5), .ref (ad 6), .int (w 0), .int (w 1), .int (w 4), .int v, .int (w 10), .int (w 11), .int (w 5), .int (w 8), .int (w 12), .int (w 13)]) = cH ad (upd w 9 v) h :=
  cu hi 0 9 (by decide) (cdm_i (by omega)) (by decide) (by decide) (Or.inl rfl) rfl cc_0
theorem cu_10 {ad : Nat → Nat} {w : Nat → Int32} {h : HP} {v : Int32} (hi : cI ad w) : hu (cH ad w h) (ad 0) (bO 1 [.ref (ad 1), .ref (ad 3), .ref (ad 5), .ref (ad 6), .int (w 0), .int (w 1), .int (w 4), .int (w 9), .int v, .int (w 11), .int (w 5), .int (w 8), .int (w 12), .int (w 13)]) = cH ad (upd w 10 v) h :=
  cu hi 0 10 (by decide) (cdm_i (by omega)) (by decide) (by decide) (Or.inl rfl) rfl cc_0
theorem cu_11 {ad : Nat → Nat} {w : Nat → Int32} {h : HP} {v : Int32} (hi : cI ad w) : hu (cH ad w h) (ad 0) (bO 1 [.ref (ad 1), .ref (ad 3), .ref (ad 5), .ref (ad 6), .int (w 0), .int (w 1), .int (w 4), .int (w 9), .int (w 10), .int v, .int (w 5), .int (w 8), .int (w 12), .int (w 13)]) = cH ad (upd w 11 v) h :=
  cu hi 0 11 (by decide) (cdm_i (by omega)) (by decide) (by decide) (Or.inl rfl) rfl cc_0
theorem cu_5 {ad : Nat → Nat} {w : Nat → Int32} {h : HP} {v : Int32} (hi : cI ad w) : hu (cH ad w h) (ad 0) (bO 1 [.ref (ad 1), .ref (ad 3), .ref (ad 5), .ref (ad 6), .int (w 0), .int (w 1), .int (w 4), .int (w 9), .int (w 10), .int (w 11), .int v, .int (w 8), .int (w 12), .int (w 13)]) = cH ad (upd w 5 v) h :=
  cu hi 0 5 (by decide) (cdm_i (by omega)) (by decide) (by decide) (Or.inl rfl) rfl cc_0
theorem cu_8 {ad : Nat → Nat} {w : Nat → Int32} {h : HP} {v : Int32} (hi : cI ad w) : hu (cH ad w h) (ad 0) (bO 1 [.ref (ad 1), .ref (ad 3), .ref (ad 5), .ref (ad 6), .int (w 0), .int (w 1), .int (w 4), .int (w 9), .int (w 10), .int (w 11), .int (w 5), .int v, .int (w 12), .int (w 13)]) = cH ad (upd w 8 v) h :=
  cu hi 0 8 (by decide) (cdm_i (by omega)) (by decide) (by decide) (Or.inl rfl) rfl cc_0
theorem cu_12 {ad : Nat → Nat} {w : Nat → Int32} {h : HP} {v : Int32} (hi : cI ad w) : hu (cH ad w h) (ad 0) (bO 1 [.ref (ad 1), .ref (ad 3), .ref (ad 5), .ref (ad 6), .int (w 0), .int (w 1), .int (w 4), .int (w 9), .int (w 10), .int (w 11), .int (w 5), .int (w 8), .int v, .int (w 13)]) = cH ad (upd w 12 v) h :=
  cu hi 0 12 (by decide) (cdm_i (by omega)) (by decide) (by decide) (Or.inl rfl) rfl cc_0
theorem cu_13 {ad : Nat → Nat} {w : Nat → Int32} {h : HP} {v : Int32} (hi : cI ad w) : hu (cH ad w h) (ad 0) (bO 1 [.ref (ad 1), .ref (ad 3), .ref (ad 5), .ref (ad 6), .int (w 0), .int (w 1), .int (w 4), .int (w 9), .int (w 10), .int (w 11), .int (w 5), .int (w 8), .int (w 12), .int v]) = cH ad (upd w 13 v) h :=
  cu hi 0 13 (by decide) (cdm_i (by omega)) (by decide) (by decide) (Or.inl rfl) rfl cc_0
theorem cu_h0 {ad : Nat → Nat} {w : Nat → Int32} {h : HP} {v : Int32} (hi : cI ad w) (k : Nat) (hk : k < 20) : hu (cH ad w h) (ad (10 + k)) (bO 2 [.int (nI k), .int v, .int (gDg w k), .int (w (53 + 4 * k + 2)), .ref (ad (30 + k))]) = cH ad (upd w (53 + 4 * k) v) h :=
  cu hi (10 + k) (53 + 4 * k) (by omega) (cdm_i (by omega)) (by omega) (by omega) (by omega) (ow_h 0 hk (by decide)) (by
    rw [cc_h hk, cHo, upd_s, upd_n (show 53 + 4 * k + 2 ≠ 53 + 4 * k by omega), gDg, gMd, upd_n (show 53 + 4 * k + 1 ≠ 53 + 4 * k by omega)]
    rfl)
theorem cu_h2 {ad : Nat → Nat} {w : Nat → Int32} {h : HP} {v : Int32} (hi : cI ad w) (k : Nat) (hk : k < 20) : hu (cH ad w h) (ad (10 + k)) (bO 2 [.int (nI k), .int (w (53 + 4 * k)), .int (gDg w k), .int v, .ref (ad (30 + k))]) = cH ad (upd w (53 + 4 * k + 2) v) h :=
  cu hi (10 + k) (53 + 4 * k + 2) (by omega) (cdm_i (by omega)) (by omega) (by omega) (by omega) (ow_h 2 hk (by decide)) (by
    rw [cc_h hk, cHo, upd_s, upd_n (show 53 + 4 * k ≠ 53 + 4 * k + 2 by omega), gDg, gMd, upd_n (show 53 + 4 * k + 1 ≠ 53 + 4 * k + 2 by omega)]
    rfl)
theorem cu_h1 {ad : Nat → Nat} {w : Nat → Int32} {h : HP} {v : Int32} (hi : cI ad w) (k : Nat) (hk : k < 20) : hu (cH ad w h) (ad (10 + k)) (bO 2 [.int (nI k), .int (w (53 + 4 * k)), .int (if v - 1 < 0 then -15 else v - 1), .int (w (53 + 4 * k + 2)), .ref (ad (30 + k))]) = cH ad (upd w (53 + 4 * k + 1) v) h :=
  cu hi (10 + k) (53 + 4 * k + 1) (by omega) (cdm_i (by omega)) (by omega) (by omega) (by omega) (ow_h 1 hk (by decide)) (by
    rw [cc_h hk, cHo, gDg, gMd, upd_s, upd_n (show 53 + 4 * k ≠ 53 + 4 * k + 1 by omega), upd_n (show 53 + 4 * k + 2 ≠ 53 + 4 * k + 1 by omega)])
theorem cu_s0 {ad : Nat → Nat} {w : Nat → Int32} {h : HP} {v : Int32} (hi : cI ad w) (k : Nat) (hk : k < 4) (hs : k < tn (w 2)) : hu (cH ad w h) (ad (70 + k)) (bO 4 [.int v, .int (w (17 + 9 * k + 1)), .int (w (17 + 9 * k + 2)), .ref (ad (74 + k)), .int (w (17 + 9 * k + 6)), .int (w (17 + 9 * k + 7)), .int (w (17 + 9 * k + 8))]) = cH ad (upd w (17 + 9 * k) v) h :=
  cu hi (70 + k) (17 + 9 * k) (by omega) (cdm_i (by omega)) (by omega) (by omega) (by omega) (ow_s 0 hk (by decide)) (by
    rw [cc_s hk, cSe, upd_s, upd_n (show 17 + 9 * k + 1 ≠ 17 + 9 * k by omega), upd_n (show 17 + 9 * k + 2 ≠ 17 + 9 * k by omega), upd_n (show 17 + 9 * k + 6 ≠ 17 + 9 * k by omega), upd_n (show 17 + 9 * k + 7 ≠ 17 + 9 * k by omega), upd_n (show 17 + 9 * k + 8 ≠ 17 + 9 * k by omega)])
theorem cu_s1 {ad : Nat → Nat} {w : Nat → Int32} {h : HP} {v : Int32} (hi : cI ad w) (k : Nat) (hk : k < 4) (hs : k < tn (w 2)) : hu (cH ad w h) (ad (70 + k)) (bO 4 [.int (w (17 + 9 * k)), .int v, .int (w (17 + 9 * k + 2)), .ref (ad (74 + k)), .int (w (17 + 9 * k + 6)), .int (w (17 + 9 * k + 7)), .int (w (17 + 9 * k + 8))]) = cH ad (upd w (17 + 9 * k + 1) v) h :=
  cu hi (70 + k) (17 + 9 * k + 1) (by omega) (cdm_i (by omega)) (by omega) (by omega) (by omega) (ow_s 1 hk (by decide)) (by
    rw [cc_s hk, cSe, upd_s, upd_n (show 17 + 9 * k ≠ 17 + 9 * k + 1 by omega), upd_n (show 17 + 9 * k + 2 ≠ 17 + 9 * k + 1 by omega), upd_n (show 17 + 9 * k + 6 ≠ 17 + 9 * k + 1 by omega), upd_n (show 17 + 9 * k + 7 ≠ 17 + 9 * k + 1 by omega), upd_n (show 17 + 9 * k + 8 ≠ 17 + 9 * k + 1 by omega)])
theorem cu_s2 {ad : Nat → Nat} {w : Nat → Int32} {h : HP} {v : Int32} (hi : cI ad w) (k : Nat) (hk : k < 4) (hs : k < tn (w 2)) : hu (cH ad w h) (ad (70 + k)) (bO 4 [.int (w (17 + 9 * k)), .int (w (17 + 9 * k + 1)), .int v, .ref (ad (74 + k)), .int (w (17 + 9 * k + 6)), .int (w (17 + 9 * k + 7)), .int (w (17 + 9 * k + 8))]) = cH ad (upd w (17 + 9 * k + 2) v) h :=
  cu hi (70 + k) (17 + 9 * k + 2) (by omega) (cdm_i (by omega)) (by omega) (by omega) (by omega) (ow_s 2 hk (by decide)) (by
    rw [cc_s hk, cSe, upd_s, upd_n (show 17 + 9 * k ≠ 17 + 9 * k + 2 by omega), upd_n (show 17 + 9 * k + 1 ≠ 17 + 9 * k + 2 by omega), upd_n (show 17 + 9 * k + 6 ≠ 17 + 9 * k + 2 by omega), upd_n (show 17 + 9 * k + 7 ≠ 17 + 9 * k + 2 by omega), upd_n (show 17 + 9 * k + 8 ≠ 17 + 9 * k + 2 by omega)])
theorem cu_s6 {ad : Nat → Nat} {w : Nat → Int32} {h : HP} {v : Int32} (hi : cI ad w) (k : Nat) (hk : k < 4) (hs : k < tn (w 2)) : hu (cH ad w h) (ad (70 + k)) (bO 4 [.int (w (17 + 9 * k)), .int (w (17 + 9 * k + 1)), .int (w (17 + 9 * k + 2)), .ref (ad (74 + k)), .int v, .int (w (17 + 9 * k + 7)), .int (w (17 + 9 * k + 8))]) = cH ad (upd w (17 + 9 * k + 6) v) h :=
  cu hi (70 + k) (17 + 9 * k + 6) (by omega) (cdm_i (by omega)) (by omega) (by omega) (by omega) (ow_s 6 hk (by decide)) (by
    rw [cc_s hk, cSe, upd_s, upd_n (show 17 + 9 * k ≠ 17 + 9 * k + 6 by omega), upd_n (show 17 + 9 * k + 1 ≠ 17 + 9 * k + 6 by omega), upd_n (show 17 + 9 * k + 2 ≠ 17 + 9 * k + 6 by omega), upd_n (show 17 + 9 * k + 7 ≠ 17 + 9 * k + 6 by omega), upd_n (show 17 + 9 * k + 8 ≠ 17 + 9 * k + 6 by omega)])
theorem cu_s7 {ad : Nat → Nat} {w : Nat → Int32} {h : HP} {v : Int32} (hi : cI ad w) (k : Nat) (hk : k < 4) (hs : k < tn (w 2)) : hu (cH ad w h) (ad (70 + k)) (bO 4 [.int (w (17 + 9 * k)), .int (w (17 + 9 * k + 1)), .int (w (17 + 9 * k + 2)), .ref (ad (74 + k)), .int (w (17 + 9 * k + 6)), .int v, .int (w (17 + 9 * k + 8))]) = cH ad (upd w (17 + 9 * k + 7) v) h :=
  cu hi (70 + k) (17 + 9 * k + 7) (by omega) (cdm_i (by omega)) (by omega) (by omega) (by omega) (ow_s 7 hk (by decide)) (by
    rw [cc_s hk, cSe, upd_s, upd_n (show 17 + 9 * k ≠ 17 + 9 * k + 7 by omega), upd_n (show 17 + 9 * k + 1 ≠ 17 + 9 * k + 7 by omega), upd_n (show 17 + 9 * k + 2 ≠ 17 + 9 * k + 7 by omega), upd_n (show 17 + 9 * k + 6 ≠ 17 + 9 * k + 7 by omega), upd_n (show 17 + 9 * k + 8 ≠ 17 + 9 * k + 7 by omega)])
theorem cu_s8 {ad : Nat → Nat} {w : Nat → Int32} {h : HP} {v : Int32} (hi : cI ad w) (k : Nat) (hk : k < 4) (hs : k < tn (w 2)) : hu (cH ad w h) (ad (70 + k)) (bO 4 [.int (w (17 + 9 * k)), .int (w (17 + 9 * k + 1)), .int (w (17 + 9 * k + 2)), .ref (ad (74 + k)), .int (w (17 + 9 * k + 6)), .int (w (17 + 9 * k + 7)), .int v]) = cH ad (upd w (17 + 9 * k + 8) v) h :=
  cu hi (70 + k) (17 + 9 * k + 8) (by omega) (cdm_i (by omega)) (by omega) (by omega) (by omega) (ow_s 8 hk (by decide)) (by
    rw [cc_s hk, cSe, upd_s, upd_n (show 17 + 9 * k ≠ 17 + 9 * k + 8 by omega), upd_n (show 17 + 9 * k + 1 ≠ 17 + 9 * k + 8 by omega), upd_n (show 17 + 9 * k + 2 ≠ 17 + 9 * k + 8 by omega), upd_n (show 17 + 9 * k + 6 ≠ 17 + 9 * k + 8 by omega), upd_n (show 17 + 9 * k + 7 ≠ 17 + 9 * k + 8 by omega)])
theorem cu_r {ad : Nat → Nat} {w : Nat → Int32} {h : HP} {v : Int32} (hi : cI ad w) (k b : Nat) (hk : k < 4) (hs : k < tn (w 2)) (hb : b < 3) : hu (cH ad w h) (ad (74 + k)) (bI 0 3 (upd (fBr w k) b v)) = cH ad (upd w (17 + 9 * k + (3 + b)) v) h :=
  cu hi (74 + k) (17 + 9 * k + (3 + b)) (by omega) (cdm_i (by omega)) (by omega) (by omega) (by omega) (ow_r b hk hb) (by
    rw [cc_r hk]
    congr 1
    congr 1
    congr 1
    congr 1
    funext q
    unfold fBr
    by_cases e : q = b
    · subst e
      rw [if_pos hb, upd_s, upd_s]
    · rw [upd_n e]
      by_cases e2 : q < 3
      · rw [if_pos e2, if_pos e2, upd_n (by omega)]
      · rw [if_neg e2, if_neg e2])
theorem cu_d {ad : Nat → Nat} {w : Nat → Int32} {h : HP} {v : Int32} (hi : cI ad w) (b : Nat) (hb : b < 3) : hu (cH ad w h) (ad 6) (bI 0 3 (upd (fDp w) b v)) = cH ad (upd w (14 + b) v) h :=
  cu hi 6 (14 + b) (by omega) (cdm_i (by omega)) (by omega) (by omega) (by omega) (ow_d b hb) (by
    rw [cc_6]
    congr 1
    congr 1
    congr 1
    congr 1
    funext q
    unfold fDp
    by_cases e : q = b
    · subst e
      rw [if_pos hb, upd_s, upd_s]
    · rw [upd_n e]
      by_cases e2 : q < 3
      · rw [if_pos e2, if_pos e2, upd_n (by omega)]
      · rw [if_neg e2, if_neg e2])
theorem cu_l6 {ad : Nat → Nat} {w : Nat → Int32} {h : HP} {v : Int32} (hi : cI ad w) (k : Nat) (hk : k < 40) (hs : k < tn (w 3)) : hu (cH ad w h) (ad (80 + 2 * k)) (bO 5 [.int (w (133 + 7 * k)), .int (w (133 + 7 * k + 1)), .int (w (133 + 7 * k + 2)), .int (w (133 + 7 * k + 3)), .int (w (133 + 7 * k + 4)), .int (w (133 + 7 * k + 5)), .int v]) = cH ad (upd w (133 + 7 * k + 6) v) h :=
  cu hi (80 + 2 * k) (133 + 7 * k + 6) (by omega) (cdm_i (by omega)) (by omega) (by omega) (by omega) (ow_l 6 (by decide)) (by
    rw [cc_l hk, cSa, upd_s, upd_n (show 133 + 7 * k ≠ 133 + 7 * k + 6 by omega), upd_n (show 133 + 7 * k + 1 ≠ 133 + 7 * k + 6 by omega), upd_n (show 133 + 7 * k + 2 ≠ 133 + 7 * k + 6 by omega), upd_n (show 133 + 7 * k + 3 ≠ 133 + 7 * k + 6 by omega), upd_n (show 133 + 7 * k + 4 ≠ 133 + 7 * k + 6 by omega), upd_n (show 133 + 7 * k + 5 ≠ 133 + 7 * k + 6 by omega)])
