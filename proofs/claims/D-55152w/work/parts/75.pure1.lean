set_option maxRecDepth 100000
theorem tA {x y : Int32} (h : -2147483648 ≤ x.toInt + y.toInt ∧ x.toInt + y.toInt < 2147483648) : (x + y).toInt = x.toInt + y.toInt := by rw [tI_add, if_pos h]
theorem tSb {x y : Int32} (h : -2147483648 ≤ x.toInt - y.toInt ∧ x.toInt - y.toInt < 2147483648) : (x - y).toInt = x.toInt - y.toInt := by rw [tI_sub, if_pos h]
theorem tMl {x y : Int32} (h : -2147483648 ≤ x.toInt * y.toInt ∧ x.toInt * y.toInt < 2147483648) : (x * y).toInt = x.toInt * y.toInt := by rw [tI_mul, if_pos h]
theorem tNg {x : Int32} (h : -2147483648 ≤ -x.toInt ∧ -x.toInt < 2147483648) : (-x).toInt = -x.toInt := by rw [tI_neg, if_pos h]
theorem lt_I {x y : Int32} : x < y ↔ x.toInt < y.toInt := Int32.lt_iff_toInt_lt
theorem le_I {x y : Int32} : x ≤ y ↔ x.toInt ≤ y.toInt := Int32.le_iff_toInt_le
theorem oK_i {a x : Int32} {w w' : Nat → Int32} (h : (oK a w : OpR) = oK x w') : a = x ∧ w = w' := by
  have h2 : (a, w) = (x, w') := Sum.inr.inj (Sum.inr.inj h)
  exact ⟨congrArg (·.1) h2, congrArg (·.2) h2⟩
theorem oRK {a b x : Int32} {w : Nat → Int32} {P : Prop} (h : (oR a b : OpR) = oK x w) : P := by cases h
theorem oCK {a x : Int32} {w : Nat → Int32} {P : Prop} (h : (oC a : OpR) = oK x w) : P := by cases h
theorem free_b (v : Int32) : (-2147483648 : Int) ≤ v.toInt ∧ v.toInt ≤ 2147483647 := by
  have h1 := Int32.le_toInt v
  have h2 := Int32.toInt_lt v
  exact ⟨by omega, by omega⟩
theorem box_upd {D : Int} {w : Nat → Int32} {k : Nat} {v : Int32} (hB : Box D w) (h : (bnd D k).1 ≤ v.toInt ∧ v.toInt ≤ (bnd D k).2) : Box D (upd w k v) := fun j => by
  by_cases e : j = k
  · rw [e, upd_s]; exact h
  · rw [upd_n e]; exact hB j
theorem box_f {D : Int} {w : Nat → Int32} {k : Nat} {v : Int32} (hB : Box D w) (hk : bnd D k = (-2147483648, 2147483647)) : Box D (upd w k v) := box_upd hB (by rw [hk]; exact free_b v)
theorem box_4 {D : Int} {w : Nat → Int32} {k : Nat} {v : Int32} (hB : Box D w) (h1 : 4 ≤ k) (h2 : k < 14) : Box D (upd w k v) := box_f hB (by
  unfold bnd
  rw [if_neg (by omega), if_neg (by omega), if_neg (by omega), if_neg (by omega), if_pos h2])
theorem box_s {D : Int} {w : Nat → Int32} {s k : Nat} {v : Int32} (hB : Box D w) (hs : s < 4) (hk : k < 9) (h : (sbd k).1 ≤ v.toInt ∧ v.toInt ≤ (sbd k).2) : Box D (upd w (17 + 9 * s + k) v) := box_upd hB (by rw [bnd_s hs hk]; exact h)
theorem box_h {D : Int} {w : Nat → Int32} {s k : Nat} {v : Int32} (hB : Box D w) (hs : s < 20) (hk : k < 4) (h : (hbd k).1 ≤ v.toInt ∧ v.toInt ≤ (hbd k).2) : Box D (upd w (53 + 4 * s + k) v) := box_upd hB (by rw [bnd_h hs hk]; exact h)
theorem box_l {D : Int} {w : Nat → Int32} {s k : Nat} {v : Int32} (hB : Box D w) (hs : s < 40) (hk : k < 7) (h : (lbd k).1 ≤ v.toInt ∧ v.toInt ≤ (lbd k).2) : Box D (upd w (133 + 7 * s + k) v) := box_upd hB (by rw [bnd_l hs hk]; exact h)
theorem box_d {D : Int} {w : Nat → Int32} {b : Nat} {v : Int32} (hB : Box D w) (hb : b < 3) (h : 0 ≤ v.toInt ∧ v.toInt ≤ 200) : Box D (upd w (14 + b) v) := box_upd hB (by rw [bnd_d hb]; exact h)
theorem box_m {D D' : Int} {w : Nat → Int32} (hB : Box D w) (h : D ≤ D') : Box D' w := fun j => by
  have h1 := hB j
  by_cases e : j = 0
  · subst e
    have h2 : 0 ≤ (w 0).toInt ∧ (w 0).toInt ≤ D := h1
    show 0 ≤ (w 0).toInt ∧ (w 0).toInt ≤ D'
    omega
  · unfold bnd at h1 ⊢
    rw [if_neg e] at h1 ⊢
    exact h1
theorem bx_b {D : Int} {w : Nat → Int32} (hB : Box D w) {s b : Nat} (hs : s < 4) (hb : b < 3) : 0 ≤ (w (17 + 9 * s + (3 + b))).toInt ∧ (w (17 + 9 * s + (3 + b))).toInt ≤ 12 := by
  rcases (show b = 0 ∨ b = 1 ∨ b = 2 by omega) with rfl | rfl | rfl
  · exact bx_s hB (k := 3) hs (by omega)
  · exact bx_s hB (k := 4) hs (by omega)
  · exact bx_s hB (k := 5) hs (by omega)
theorem box_b {D : Int} {w : Nat → Int32} {s b : Nat} {v : Int32} (hB : Box D w) (hs : s < 4) (hb : b < 3) (h : 0 ≤ v.toInt ∧ v.toInt ≤ 12) : Box D (upd w (17 + 9 * s + (3 + b)) v) := by
  rcases (show b = 0 ∨ b = 1 ∨ b = 2 by omega) with rfl | rfl | rfl
  · exact box_s hB (k := 3) hs (by omega) h
  · exact box_s hB (k := 4) hs (by omega) h
  · exact box_s hB (k := 5) hs (by omega) h
theorem sN_cg {w w' : Nat → Int32} {n : Nat} (hn : n ≤ 40) (h : ∀ j, 133 ≤ j → j < 413 → w' j = w j) : sN w' n = sN w n ∧ sK w' n = sK w n := by
  induction n with
  | zero => exact ⟨rfl, rfl⟩
  | succ n ih =>
    have := ih (by omega)
    refine ⟨?_, ?_⟩
    · show sN w' n + w' (133 + 7 * n + 3) = sN w n + w (133 + 7 * n + 3)
      rw [this.1, h _ (by omega) (by omega)]
    · show sK w' n + (if w' (133 + 7 * n + 6) = 1 then w' (133 + 7 * n + 3) else 0) = sK w n + (if w (133 + 7 * n + 6) = 1 then w (133 + 7 * n + 3) else 0)
      rw [this.2, h _ (by omega) (by omega), h _ (by omega) (by omega)]
theorem gSum_cg {w w' : Nat → Int32} {k n : Nat} (h : ∀ s, s < n → w' (17 + 9 * s + k) = w (17 + 9 * s + k)) : gSum w' k n = gSum w k n := by
  induction n with
  | zero => rfl
  | succ n ih =>
    show gSum w' k n + w' (17 + 9 * n + k) = gSum w k n + w (17 + 9 * n + k)
    rw [ih (fun s hs => h s (by omega)), h n (by omega)]
theorem tn_lt4 {D : Int} {w : Nat → Int32} (hB : Box D w) : tn (w 2) ≤ 4 ∧ (w 2).toInt = (tn (w 2) : Int) ∧ tn (w 3) ≤ 40 ∧ (w 3).toInt = (tn (w 3) : Int) := by
  have h2 : 0 ≤ (w 2).toInt ∧ (w 2).toInt ≤ 4 := hB 2
  have h3 : 0 ≤ (w 3).toInt ∧ (w 3).toInt ≤ 40 := hB 3
  unfold tn
  omega
theorem IV_cg {D D' : Int} {w w' : Nat → Int32} (hV : IV D w) (hB : Box D' w') (e2 : w' 2 = w 2) (e3 : w' 3 = w 3) (e6 : w' 6 = w 6) (e7 : w' 7 = w 7) (es : ∀ s k, s < 4 → (k = 6 ∨ k = 7) → w' (17 + 9 * s + k) = w (17 + 9 * s + k)) (el : ∀ j, 133 ≤ j → j < 413 → w' j = w j) : IV D' w' := by
  obtain ⟨hB0, hS, hb, hv⟩ := hV
  have ht := tn_lt4 hB0
  refine ⟨hB, fun i hi => ?_, ⟨?_, ?_⟩, ⟨?_, ?_⟩⟩
  · rw [e3] at hi
    rw [e2, el _ (by omega) (by omega), el _ (by omega) (by omega)]
    exact hS i hi
  · rw [e2, e6, ← hb.1]
    exact gSum_cg fun s hs => es s 6 (by omega) (Or.inl rfl)
  · rw [e2, e7, ← hb.2]
    exact gSum_cg fun s hs => es s 7 (by omega) (Or.inr rfl)
  · rw [e3, e6, ← hv.1]
    exact (sN_cg ht.2.2.1 el).1
  · rw [e3, e7, ← hv.2]
    exact (sN_cg ht.2.2.1 el).2
theorem isS_x {D : Int} {w : Nat → Int32} (hB : Box D w) {x : Int32} (h : isS w x = true) : tn x < 4 ∧ x.toInt = (tn x : Int) ∧ tn x < tn (w 2) := by
  obtain ⟨h1, h2⟩ := isn_t.mp h
  have h3 : 0 ≤ (w 2).toInt ∧ (w 2).toInt ≤ 4 := hB 2
  have e0 : (0 : Int32).toInt = 0 := rfl
  have e1 : (1 : Int32).toInt = 1 := rfl
  rw [tSb (by omega)] at h2
  unfold tn
  omega
theorem isH_x {x : Int32} (h : isH x = true) : tn x < 20 ∧ 0 ≤ x.toInt ∧ x.toInt ≤ 19 := by
  obtain ⟨h1, h2⟩ := isn_t.mp h
  have e0 : (0 : Int32).toInt = 0 := rfl
  have e1 : (19 : Int32).toInt = 19 := rfl
  unfold tn
  omega
theorem isB_x {x : Int32} (h : isB x = true) : tn x < 3 ∧ x.toInt = (tn x : Int) := by
  obtain ⟨h1, h2⟩ := isn_t.mp h
  have e0 : (0 : Int32).toInt = 0 := rfl
  have e1 : (2 : Int32).toInt = 2 := rfl
  unfold tn
  omega
theorem iv_go {D : Int} {w w' : Nat → Int32} {a b x : Int32} (hV : IV D w) (h : oGoes w a b = oK x w') : IV D w' ∧ 0 ≤ x.toInt := by
  have hB := hV.1
  unfold oGoes at h
  split at h
  case isFalse => exact oCK h
  case isTrue hc =>
    obtain ⟨hs, -, -⟩ := isS_x hB hc.1
    obtain ⟨-, hb⟩ := isH_x hc.2
    generalize tn a = s at hs h
    have hP : 0 ≤ (w (17 + 9 * s + 1)).toInt ∧ (w (17 + 9 * s + 1)).toInt ≤ 19 := bx_s hB (k := 1) hs (by omega)
    have hw : 0 ≤ (w (17 + 9 * s + 2)).toInt ∧ (w (17 + 9 * s + 2)).toInt ≤ 100 := bx_s hB (k := 2) hs (by omega)
    have h1 : 0 ≤ (w 1).toInt ∧ (w 1).toInt ≤ 480 := hB 1
    have hy := iabs_r hb hP
    unfold gGoR at h
    rw [show gSl w s 1 = w (17 + 9 * s + 1) from rfl, show gSl w s 2 = w (17 + 9 * s + 2) from rfl] at h
    generalize iabs (b - w (17 + 9 * s + 1)) = y at hy h
    split at h
    case isTrue => exact oRK h
    case isFalse c1 =>
      split at h
      case isTrue => exact oRK h
      case isFalse c2 =>
        obtain ⟨rfl, rfl⟩ := oK_i h
        rw [lt_I, tA (by omega)] at c1
        have e100 : (100 : Int32).toInt = 100 := rfl
        have e480 : (480 : Int32).toInt = 480 := rfl
        rw [gLeft, lt_I, tSb (by omega)] at c2
        have ea : (w (17 + 9 * s + 2) + y).toInt = (w (17 + 9 * s + 2)).toInt + y.toInt := tA (by omega)
        have eb : (w 1 + y).toInt = (w 1).toInt + y.toInt := tA (by omega)
        refine ⟨IV_cg hV (box_s (k := 1) (box_upd (k := 1) (box_s (k := 8) (box_s (k := 2) hB hs (by omega) ⟨by rw [ea]; show 0 ≤ _; omega, by rw [ea]; show _ ≤ 100; omega⟩) hs (by omega) (free_b _)) ⟨by rw [eb]; show 0 ≤ _; omega, by rw [eb]; show _ ≤ 480; omega⟩) hs (by omega) hb) ?_ ?_ ?_ ?_ (fun s2 k h4 hk => ?_) (fun j j1 j2 => ?_), by rw [ea]; omega⟩
        all_goals (rw [gGo, upd_n (by omega), upd_n (by omega), upd_n (by omega), upd_n (by omega)])
theorem iv_ren {D : Int} {w w' : Nat → Int32} {a x : Int32} (hV : IV D w) (h : oRenews w a = oK x w') : IV D w' ∧ 0 ≤ x.toInt := by
  have hB := hV.1
  unfold oRenews at h
  split at h
  case isFalse => exact oCK h
  case isTrue hc =>
    obtain ⟨hs, -, -⟩ := isS_x hB hc
    generalize tn a = s at hs h
    have hw : 0 ≤ (w (17 + 9 * s + 2)).toInt ∧ (w (17 + 9 * s + 2)).toInt ≤ 100 := bx_s hB (k := 2) hs (by omega)
    unfold gRenR at h
    split at h
    case isFalse => exact oRK h
    case isTrue =>
      split at h
      case isTrue => exact oRK h
      case isFalse =>
        obtain ⟨rfl, rfl⟩ := oK_i h
        refine ⟨IV_cg hV (box_s (k := 2) (box_4 (box_4 hB (by omega) (by omega)) (by omega) (by omega)) hs (by omega) ⟨by decide, by decide⟩) ?_ ?_ ?_ ?_ (fun s2 k h4 hk => ?_) (fun j j1 j2 => ?_), hw.1⟩
        all_goals (rw [upd_n (by omega), gSpend, upd_n (by omega), upd_n (by omega)])
theorem iv_pet {D : Int} {w w' : Nat → Int32} {a x : Int32} (hV : IV D w) (h : oPets w a = oK x w') : IV D w' ∧ 0 ≤ x.toInt := by
  have hB := hV.1
  unfold oPets at h
  split at h
  case isFalse => exact oCK h
  case isTrue hc =>
    obtain ⟨hs, -, -⟩ := isS_x hB hc
    generalize tn a = s at hs h
    have hP : 0 ≤ (w (17 + 9 * s + 1)).toInt ∧ (w (17 + 9 * s + 1)).toInt ≤ 19 := bx_s hB (k := 1) hs (by omega)
    have hh : tn (gSl w s 1) < 20 := by unfold tn gSl; omega
    generalize tn (gSl w s 1) = m at hh h
    have hw : 0 ≤ (w (17 + 9 * s + 2)).toInt ∧ (w (17 + 9 * s + 2)).toInt ≤ 100 := bx_s hB (k := 2) hs (by omega)
    have hm : 0 ≤ (w (53 + 4 * m + 1)).toInt ∧ (w (53 + 4 * m + 1)).toInt ≤ 10 := bx_h hB (k := 1) hh (by omega)
    have e0 : (0 : Int32).toInt = 0 := rfl
    have e1 : (1 : Int32).toInt = 1 := rfl
    have e2 : (2 : Int32).toInt = 2 := rfl
    have e7 : (7 : Int32).toInt = 7 := rfl
    have e10 : (10 : Int32).toInt = 10 := rfl
    have e100 : (100 : Int32).toInt = 100 := rfl
    have eM : (gMd w m).toInt = (w (53 + 4 * m + 1)).toInt - 1 := tSb (by omega)
    unfold gPetR at h
    split at h
    case isTrue => exact oRK h
    case isFalse c1 =>
      rw [lt_I] at c1
      split at h
      case isTrue c2 =>
        split at h
        case isTrue => exact oRK h
        case isFalse c3 =>
          obtain ⟨rfl, rfl⟩ := oK_i h
          have ea : (gSl w s 2 + 10).toInt = (w (17 + 9 * s + 2)).toInt + 10 := tA (x := w (17 + 9 * s + 2)) (by omega)
          rw [lt_I, ea] at c3
          refine ⟨IV_cg hV (box_h (k := 1) (box_4 (box_s (k := 2) hB hs (by omega) ⟨by rw [ea]; show 0 ≤ _; omega, by rw [ea]; show _ ≤ 100; omega⟩) (by omega) (by omega)) hh (by omega) ⟨by decide, by decide⟩) ?_ ?_ ?_ ?_ (fun s2 k h4 hk => ?_) (fun j j1 j2 => ?_), by decide⟩
          all_goals (rw [upd_n (by omega), upd_n (by omega), upd_n (by omega)])
      case isFalse c2 =>
        obtain ⟨rfl, rfl⟩ := oK_i h
        rw [le_I] at c2
        have ea : (gMd w m - 2).toInt = (gMd w m).toInt - 2 := tSb (by omega)
        have hx : 0 ≤ (imax 0 (gMd w m - 2)).toInt ∧ (imax 0 (gMd w m - 2)).toInt ≤ 6 := by
          unfold imax
          by_cases e : (0 : Int32) < gMd w m - 2
          · rw [if_pos e]; rw [lt_I] at e; omega
          · rw [if_neg e]; decide
        have eb : (imax 0 (gMd w m - 2) + 1).toInt = (imax 0 (gMd w m - 2)).toInt + 1 := tA (by omega)
        refine ⟨IV_cg hV (box_h (k := 1) hB hh (by omega) ⟨by rw [eb]; show 0 ≤ _; omega, by rw [eb]; show _ ≤ 10; omega⟩) ?_ ?_ ?_ ?_ (fun s2 k h4 hk => ?_) (fun j j1 j2 => ?_), hx.1⟩
        all_goals (rw [upd_n (by omega)])
theorem iv_take {D : Int} {w w' : Nat → Int32} {a b n x : Int32} (hV : IV D w) (h : oTakes w a b n = oK x w') : IV D w' ∧ 0 ≤ x.toInt := by
  have hB := hV.1
  unfold oTakes at h
  split at h
  case isFalse => exact oCK h
  case isTrue hc =>
    split at h
    case isFalse => exact oCK h
    case isTrue ht =>
      obtain ⟨hs, -, -⟩ := isS_x hB hc.1
      obtain ⟨hb, -⟩ := isB_x hc.2
      have hn := isTk_r ht
      generalize tn a = s at hs h
      generalize tn b = c at hb h
      have h1 := bx_b hB hs hb
      have h2 := bx_d hB hb
      have e0 : (0 : Int32).toInt = 0 := rfl
      have e12 : (12 : Int32).toInt = 12 := rfl
      have e200 : (200 : Int32).toInt = 200 := rfl
      have en : (-n).toInt = -n.toInt := tNg (by omega)
      have ea : (w (17 + 9 * s + (3 + c)) + n).toInt = (w (17 + 9 * s + (3 + c))).toInt + n.toInt := tA (by omega)
      have eb : (w (14 + c) - n).toInt = (w (14 + c)).toInt - n.toInt := tSb (by omega)
      have fin : 0 ≤ (w (17 + 9 * s + (3 + c)) + n).toInt → (w (17 + 9 * s + (3 + c)) + n).toInt ≤ 12 → 0 ≤ (w (14 + c) - n).toInt → (w (14 + c) - n).toInt ≤ 200 → IV D (gTake w s c n) := fun f1 f2 f3 f4 => by
        refine IV_cg hV (box_b (box_d hB hb ⟨f3, f4⟩) hs hb ⟨f1, f2⟩) ?_ ?_ ?_ ?_ (fun s2 k h4 hk => ?_) (fun j j1 j2 => ?_)
        all_goals (rw [gTake, upd_n (by omega), upd_n (by omega)])
      unfold gTakeR at h
      rw [show gSl w s (3 + c) = w (17 + 9 * s + (3 + c)) from rfl] at h
      split at h
      case isFalse => exact oRK h
      case isTrue =>
        split at h
        case isTrue c1 =>
          rw [lt_I] at c1
          split at h
          case isTrue => exact oRK h
          case isFalse c2 =>
            split at h
            case isTrue => exact oRK h
            case isFalse c3 =>
              obtain ⟨rfl, rfl⟩ := oK_i h
              rw [lt_I] at c2
              rw [lt_I, ea] at c3
              exact ⟨fin (by omega) (by omega) (by omega) (by omega), by omega⟩
        case isFalse c1 =>
          rw [lt_I] at c1
          split at h
          case isTrue => exact oRK h
          case isFalse c2 =>
            split at h
            case isTrue => exact oRK h
            case isFalse c3 =>
              obtain ⟨rfl, rfl⟩ := oK_i h
              rw [lt_I, en] at c2
              rw [lt_I, eb] at c3
              exact ⟨fin (by omega) (by omega) (by omega) (by omega), by omega⟩
