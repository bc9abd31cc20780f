set_option maxRecDepth 100000
theorem mm_x {x y : Int32} (hy : 0 ≤ y.toInt) : imin y (imax 0 x) = imax 0 (imin x y) := by
  have h0 : (0 : Int32).toInt = 0 := rfl
  unfold imin imax
  by_cases a : (0 : Int32) < x
  · rw [if_pos a]
    by_cases b : x < y
    · have c : ¬ y < x := by rw [Int32.lt_iff_toInt_lt] at b ⊢; omega
      rw [if_pos b, if_neg c, if_pos a]
    · rw [if_neg b]
      by_cases c : y < x
      · rw [if_pos c]
        by_cases d : (0 : Int32) < y
        · rw [if_pos d]
        · rw [if_neg d, i32_eq]
          rw [Int32.lt_iff_toInt_lt] at d
          omega
      · rw [if_neg c, if_pos a, i32_eq]
        rw [Int32.lt_iff_toInt_lt] at b c
        omega
  · rw [if_neg a]
    have c1 : ¬ (0 : Int32) < (if y < x then y else x) := by
      by_cases c : y < x
      · rw [if_pos c]
        rw [Int32.lt_iff_toInt_lt] at a c ⊢
        omega
      · rw [if_neg c]
        exact a
    rw [if_neg c1]
    by_cases b : (0 : Int32) < y
    · rw [if_pos b]
    · rw [if_neg b, i32_eq]
      rw [Int32.lt_iff_toInt_lt] at b
      omega
theorem imax_nn {x : Int32} : 0 ≤ (imax 0 x).toInt := by
  unfold imax
  by_cases e : 0 < x
  · rw [if_pos e]
    rw [Int32.lt_iff_toInt_lt] at e
    exact Int.le_of_lt e
  · rw [if_neg e]
    exact Int.le_refl _
theorem gWd_eq {w : Nat → Int32} {s h b : Nat} {p : Int32} (hb : 0 ≤ (w (17 + 9 * s + (3 + b))).toInt) : gWd w s h b p = gWants w s h b p := by
  unfold gWd
  by_cases e : gListens w s h = true
  · rw [if_pos e, gW_t e]
    exact mm_x hb
  · rw [if_neg e, gW_f e]
theorem gWants_nn {w : Nat → Int32} {s h b : Nat} {p : Int32} : 0 ≤ (gWants w s h b p).toInt := by
  by_cases e : gListens w s h = true
  · rw [gW_t e]
    exact imax_nn
  · rw [gW_f e]
    exact Int.le_refl _
theorem gMany_nn {w : Nat → Int32} {s b : Nat} {p : Int32} {n : Nat} : 0 ≤ (gMany w s b p n).toInt := by
  unfold gMany
  split
  · exact Int.le_refl _
  · exact gWants_nn
/-- the best so far: none, or one that is as far as it is said -/
theorem gBest_ok {w : Nat → Int32} {s b : Nat} {p : Int32} : ∀ n : Nat, n ≤ 20 → 0 ≤ (gBest w s b p n).2.1.toInt ∧ ((gBest w s b p n).2.1 = 0 ∨ ((gBest w s b p n).2.2 = iabs ((gBest w s b p n).1 - gSl w s 1) ∧ 0 ≤ (gBest w s b p n).1.toInt ∧ (gBest w s b p n).1.toInt ≤ 19))
  | 0, _ => ⟨Int.le_refl _, Or.inl rfl⟩
  | n + 1, hn => by
    by_cases e : gMany w s b p n = 0 ∨ gMany w s b p n < (gBest w s b p n).2.1 ∨ (gMany w s b p n = (gBest w s b p n).2.1 ∧ (gBest w s b p n).2.2 ≤ iabs (nI n - gSl w s 1))
    · rw [gBest_k e]
      exact gBest_ok n (by omega)
    · rw [gBest_t e]
      refine ⟨gMany_nn, Or.inr ⟨rfl, ?_⟩⟩
      have := nIn (show n < 1000 by omega)
      show 0 ≤ (nI n).toInt ∧ (nI n).toInt ≤ 19
      omega
theorem gd_7 {w : Nat → Int32} {h : Nat} : 7 ≤ gDg w h ↔ 7 ≤ gMd w h := by
  unfold gDg
  by_cases e : gMd w h < 0
  · rw [if_pos e]
    refine ⟨fun e2 => absurd e2 (by decide), fun e2 => ?_⟩
    rw [Int32.lt_iff_toInt_lt] at e
    rw [Int32.le_iff_toInt_le] at e2
    have h0 : (0 : Int32).toInt = 0 := rfl
    have h7 : (7 : Int32).toInt = 7 := rfl
    omega
  · rw [if_neg e]
/-- when the house i is taken -/
theorem best_c {m M r y : Int32} (hm : 0 ≤ m.toInt) (hM : 0 ≤ M.toInt) : ¬ (m = 0 ∨ m < M ∨ (m = M ∧ r ≤ y)) ↔ (M < m ∨ (0 < m ∧ m = M ∧ y < r)) := by
  have h0 : (0 : Int32).toInt = 0 := rfl
  simp only [i32_eq, Int32.lt_iff_toInt_lt, Int32.le_iff_toInt_le, h0]
  omega
set_option maxHeartbeats 4000000 in
set_option maxRecDepth 100000 in
theorem best_59 {G : GG} {h : HP} {ad : Nat → Nat} {w : Nat → Int32} (hi : cI ad w) {q : Nat} {X : Bd} (k0 b : Nat) (hk : k0 < 4) (hs : k0 < tn (w 2)) (hb : b < 3) (hbr : 0 ≤ (w (17 + 9 * k0 + (3 + b))).toInt) (hat : 0 ≤ (gSl w k0 1).toInt ∧ (gSl w k0 1).toInt ≤ 19) (hw3 : ∀ m, m < 20 → 0 ≤ (w (53 + 4 * m + 3)).toInt ∧ (w (53 + 4 * m + 3)).toInt ≤ 7) {y : Int32} {i : Nat} (hi2 : i < 20) {B M m r : Int32} {Q : Oc → HP → Prop} (eB : 0 < M → iabs (w (17 + 9 * k0 + 1) - B) = r) (kt : (M < m ∨ (0 < m ∧ m = M ∧ iabs (nI i - gSl w k0 1) < r)) → V G 4 M_X1_bestHouse 16 [(5, .int m), (4, .int (nI i)), (6, .ref q), (0, .ref (ad 0)), (1, .ref (ad (70 + k0))), (2, .int (nI b)), (3, .int y)] [] (cH ad w (hu h q X)) 0 Q) (kn : ¬ (M < m ∨ (0 < m ∧ m = M ∧ iabs (nI i - gSl w k0 1) < r)) → V G 4 M_X1_bestHouse 16 [(5, .int M), (4, .int B), (6, .ref q), (0, .ref (ad 0)), (1, .ref (ad (70 + k0))), (2, .int (nI b)), (3, .int y)] [] (cH ad w (hu h q X)) 0 Q) : V G 4 M_X1_bestHouse 59 [(7, .ref (ad (10 + i))), (5, .int M), (4, .int B), (6, .ref q), (0, .ref (ad 0)), (1, .ref (ad (70 + k0))), (2, .int (nI b)), (3, .int y)] [.int m] (cH ad w (hu h q X)) 0 Q := by
  have eat : gSl w k0 1 = w (17 + 9 * k0 + 1) := rfl
  have hix := nIn (show i < 1000 by omega)
  have ec : iabs (w (17 + 9 * k0 + 1) - nI i) = iabs (nI i - gSl w k0 1) := iabs_c (by rw [← eat]; omega) (by omega)
  refine r_istore dX1_bestHouse_59 (Nat.le_of_ble_eq_true rfl) ?_
  refine r_iload dX1_bestHouse_61 rfl ?_
  refine r_if_le 95 dX1_bestHouse_63 rfl (fun c63 => ?_) (fun c63 => ?_)
  · refine r_iconst (v := 0) dX1_bestHouse_95 rfl ?_
    refine r_istore dX1_bestHouse_96 (Nat.le_of_ble_eq_true rfl) ?_
    refine r_iload dX1_bestHouse_98 rfl ?_
    refine r_iload dX1_bestHouse_100 rfl ?_
    refine r_icmp_gt 110 dX1_bestHouse_102 rfl (fun c102 => ?_) (fun c102 => ?_)
    · first | refine r_aload dX1_bestHouse_110 rfl ?_ | refine r_aloadq dX1_bestHouse_110 rfl ?_ | refine r_aloadN dX1_bestHouse_110 rfl ?_
      refine r_getfieldN 2 0 dX1_bestHouse_112 rfl (Nat.le_of_ble_eq_true rfl) (lkT q208 rfl) (Or.inl rfl) (Or.inl (c_h hi i hi2)) (by rfl) ?_
      refine r_istore dX1_bestHouse_115 (Nat.le_of_ble_eq_true rfl) ?_
      refine r_iload dX1_bestHouse_117 rfl ?_
      refine r_istore dX1_bestHouse_119 (Nat.le_of_ble_eq_true rfl) ?_
      refine r_goto 16 dX1_bestHouse_121 rfl ?_
      first
      | exact absurd rfl c107
      | exact absurd c107 (by decide)
      | (refine V_loc (L' := [(5, .int m), (4, .int (nI i)), (6, .ref q), (0, .ref (ad 0)), (1, .ref (ad (70 + k0))), (2, .int (nI b)), (3, .int y)]) ⟨rfl, rfl, rfl, rfl, rfl, rfl, rfl, trivial⟩ ?_; refine kt ?_; first | exact Or.inl (by assumption) | exact Or.inr ⟨Int32.not_le.mp c63, by assumption, by rw [← eB (by rw [← c70]; exact Int32.not_le.mp c63)]; exact Int32.not_le.mp c88⟩)
      | (refine V_loc (L' := [(5, .int M), (4, .int B), (6, .ref q), (0, .ref (ad 0)), (1, .ref (ad (70 + k0))), (2, .int (nI b)), (3, .int y)]) ⟨rfl, rfl, rfl, rfl, rfl, rfl, rfl, trivial⟩ ?_; refine kn (fun e => e.elim (fun e => absurd e (by assumption)) (fun e => ?_)); first | exact absurd e.1 (Int32.not_lt.mpr (by assumption)) | exact absurd e.2.1 (by assumption) | exact absurd (by rw [eB (by rw [← e.2.1]; exact e.1)]; exact e.2.2) (Int32.not_lt.mpr c88))
    · refine r_iload dX1_bestHouse_105 rfl ?_
      refine r_if_eq 121 dX1_bestHouse_107 rfl (fun c107 => ?_) (fun c107 => ?_)
      · refine r_goto 16 dX1_bestHouse_121 rfl ?_
        first
        | exact absurd rfl c107
        | exact absurd c107 (by decide)
        | (refine V_loc (L' := [(5, .int m), (4, .int (nI i)), (6, .ref q), (0, .ref (ad 0)), (1, .ref (ad (70 + k0))), (2, .int (nI b)), (3, .int y)]) ⟨rfl, rfl, rfl, rfl, rfl, rfl, rfl, trivial⟩ ?_; refine kt ?_; first | exact Or.inl (by assumption) | exact Or.inr ⟨Int32.not_le.mp c63, by assumption, by rw [← eB (by rw [← c70]; exact Int32.not_le.mp c63)]; exact Int32.not_le.mp c88⟩)
        | (refine V_loc (L' := [(5, .int M), (4, .int B), (6, .ref q), (0, .ref (ad 0)), (1, .ref (ad (70 + k0))), (2, .int (nI b)), (3, .int y)]) ⟨rfl, rfl, rfl, rfl, rfl, rfl, rfl, trivial⟩ ?_; refine kn (fun e => e.elim (fun e => absurd e (by assumption)) (fun e => ?_)); first | exact absurd e.1 (Int32.not_lt.mpr (by assumption)) | exact absurd e.2.1 (by assumption) | exact absurd (by rw [eB (by rw [← e.2.1]; exact e.1)]; exact e.2.2) (Int32.not_lt.mpr c88))
      · first | refine r_aload dX1_bestHouse_110 rfl ?_ | refine r_aloadq dX1_bestHouse_110 rfl ?_ | refine r_aloadN dX1_bestHouse_110 rfl ?_
        refine r_getfieldN 2 0 dX1_bestHouse_112 rfl (Nat.le_of_ble_eq_true rfl) (lkT q208 rfl) (Or.inl rfl) (Or.inl (c_h hi i hi2)) (by rfl) ?_
        refine r_istore dX1_bestHouse_115 (Nat.le_of_ble_eq_true rfl) ?_
        refine r_iload dX1_bestHouse_117 rfl ?_
        refine r_istore dX1_bestHouse_119 (Nat.le_of_ble_eq_true rfl) ?_
        refine r_goto 16 dX1_bestHouse_121 rfl ?_
        first
        | exact absurd rfl c107
        | exact absurd c107 (by decide)
        | (refine V_loc (L' := [(5, .int m), (4, .int (nI i)), (6, .ref q), (0, .ref (ad 0)), (1, .ref (ad (70 + k0))), (2, .int (nI b)), (3, .int y)]) ⟨rfl, rfl, rfl, rfl, rfl, rfl, rfl, trivial⟩ ?_; refine kt ?_; first | exact Or.inl (by assumption) | exact Or.inr ⟨Int32.not_le.mp c63, by assumption, by rw [← eB (by rw [← c70]; exact Int32.not_le.mp c63)]; exact Int32.not_le.mp c88⟩)
        | (refine V_loc (L' := [(5, .int M), (4, .int B), (6, .ref q), (0, .ref (ad 0)), (1, .ref (ad (70 + k0))), (2, .int (nI b)), (3, .int y)]) ⟨rfl, rfl, rfl, rfl, rfl, rfl, rfl, trivial⟩ ?_; refine kn (fun e => e.elim (fun e => absurd e (by assumption)) (fun e => ?_)); first | exact absurd e.1 (Int32.not_lt.mpr (by assumption)) | exact absurd e.2.1 (by assumption) | exact absurd (by rw [eB (by rw [← e.2.1]; exact e.1)]; exact e.2.2) (Int32.not_lt.mpr c88))
  · refine r_iload dX1_bestHouse_66 rfl ?_
    refine r_iload dX1_bestHouse_68 rfl ?_
    refine r_icmp_ne 95 dX1_bestHouse_70 rfl (fun c70 => ?_) (fun c70 => ?_)
    · refine r_iconst (v := 0) dX1_bestHouse_95 rfl ?_
      refine r_istore dX1_bestHouse_96 (Nat.le_of_ble_eq_true rfl) ?_
      refine r_iload dX1_bestHouse_98 rfl ?_
      refine r_iload dX1_bestHouse_100 rfl ?_
      refine r_icmp_gt 110 dX1_bestHouse_102 rfl (fun c102 => ?_) (fun c102 => ?_)
      · first | refine r_aload dX1_bestHouse_110 rfl ?_ | refine r_aloadq dX1_bestHouse_110 rfl ?_ | refine r_aloadN dX1_bestHouse_110 rfl ?_
        refine r_getfieldN 2 0 dX1_bestHouse_112 rfl (Nat.le_of_ble_eq_true rfl) (lkT q208 rfl) (Or.inl rfl) (Or.inl (c_h hi i hi2)) (by rfl) ?_
        refine r_istore dX1_bestHouse_115 (Nat.le_of_ble_eq_true rfl) ?_
        refine r_iload dX1_bestHouse_117 rfl ?_
        refine r_istore dX1_bestHouse_119 (Nat.le_of_ble_eq_true rfl) ?_
        refine r_goto 16 dX1_bestHouse_121 rfl ?_
        first
        | exact absurd rfl c107
        | exact absurd c107 (by decide)
        | (refine V_loc (L' := [(5, .int m), (4, .int (nI i)), (6, .ref q), (0, .ref (ad 0)), (1, .ref (ad (70 + k0))), (2, .int (nI b)), (3, .int y)]) ⟨rfl, rfl, rfl, rfl, rfl, rfl, rfl, trivial⟩ ?_; refine kt ?_; first | exact Or.inl (by assumption) | exact Or.inr ⟨Int32.not_le.mp c63, by assumption, by rw [← eB (by rw [← c70]; exact Int32.not_le.mp c63)]; exact Int32.not_le.mp c88⟩)
        | (refine V_loc (L' := [(5, .int M), (4, .int B), (6, .ref q), (0, .ref (ad 0)), (1, .ref (ad (70 + k0))), (2, .int (nI b)), (3, .int y)]) ⟨rfl, rfl, rfl, rfl, rfl, rfl, rfl, trivial⟩ ?_; refine kn (fun e => e.elim (fun e => absurd e (by assumption)) (fun e => ?_)); first | exact absurd e.1 (Int32.not_lt.mpr (by assumption)) | exact absurd e.2.1 (by assumption) | exact absurd (by rw [eB (by rw [← e.2.1]; exact e.1)]; exact e.2.2) (Int32.not_lt.mpr c88))
      · refine r_iload dX1_bestHouse_105 rfl ?_
        refine r_if_eq 121 dX1_bestHouse_107 rfl (fun c107 => ?_) (fun c107 => ?_)
        · refine r_goto 16 dX1_bestHouse_121 rfl ?_
          first
          | exact absurd rfl c107
          | exact absurd c107 (by decide)
          | (refine V_loc (L' := [(5, .int m), (4, .int (nI i)), (6, .ref q), (0, .ref (ad 0)), (1, .ref (ad (70 + k0))), (2, .int (nI b)), (3, .int y)]) ⟨rfl, rfl, rfl, rfl, rfl, rfl, rfl, trivial⟩ ?_; refine kt ?_; first | exact Or.inl (by assumption) | exact Or.inr ⟨Int32.not_le.mp c63, by assumption, by rw [← eB (by rw [← c70]; exact Int32.not_le.mp c63)]; exact Int32.not_le.mp c88⟩)
          | (refine V_loc (L' := [(5, .int M), (4, .int B), (6, .ref q), (0, .ref (ad 0)), (1, .ref (ad (70 + k0))), (2, .int (nI b)), (3, .int y)]) ⟨rfl, rfl, rfl, rfl, rfl, rfl, rfl, trivial⟩ ?_; refine kn (fun e => e.elim (fun e => absurd e (by assumption)) (fun e => ?_)); first | exact absurd e.1 (Int32.not_lt.mpr (by assumption)) | exact absurd e.2.1 (by assumption) | exact absurd (by rw [eB (by rw [← e.2.1]; exact e.1)]; exact e.2.2) (Int32.not_lt.mpr c88))
        · first | refine r_aload dX1_bestHouse_110 rfl ?_ | refine r_aloadq dX1_bestHouse_110 rfl ?_ | refine r_aloadN dX1_bestHouse_110 rfl ?_
          refine r_getfieldN 2 0 dX1_bestHouse_112 rfl (Nat.le_of_ble_eq_true rfl) (lkT q208 rfl) (Or.inl rfl) (Or.inl (c_h hi i hi2)) (by rfl) ?_
          refine r_istore dX1_bestHouse_115 (Nat.le_of_ble_eq_true rfl) ?_
          refine r_iload dX1_bestHouse_117 rfl ?_
          refine r_istore dX1_bestHouse_119 (Nat.le_of_ble_eq_true rfl) ?_
          refine r_goto 16 dX1_bestHouse_121 rfl ?_
          first
          | exact absurd rfl c107
          | exact absurd c107 (by decide)
          | (refine V_loc (L' := [(5, .int m), (4, .int (nI i)), (6, .ref q), (0, .ref (ad 0)), (1, .ref (ad (70 + k0))), (2, .int (nI b)), (3, .int y)]) ⟨rfl, rfl, rfl, rfl, rfl, rfl, rfl, trivial⟩ ?_; refine kt ?_; first | exact Or.inl (by assumption) | exact Or.inr ⟨Int32.not_le.mp c63, by assumption, by rw [← eB (by rw [← c70]; exact Int32.not_le.mp c63)]; exact Int32.not_le.mp c88⟩)
          | (refine V_loc (L' := [(5, .int M), (4, .int B), (6, .ref q), (0, .ref (ad 0)), (1, .ref (ad (70 + k0))), (2, .int (nI b)), (3, .int y)]) ⟨rfl, rfl, rfl, rfl, rfl, rfl, rfl, trivial⟩ ?_; refine kn (fun e => e.elim (fun e => absurd e (by assumption)) (fun e => ?_)); first | exact absurd e.1 (Int32.not_lt.mpr (by assumption)) | exact absurd e.2.1 (by assumption) | exact absurd (by rw [eB (by rw [← e.2.1]; exact e.1)]; exact e.2.2) (Int32.not_lt.mpr c88))
    · first | refine r_aload_n dX1_bestHouse_73 rfl ?_ | refine r_aload_nq dX1_bestHouse_73 rfl ?_ | refine r_aload_nN dX1_bestHouse_73 rfl ?_
      first | refine r_aload dX1_bestHouse_74 rfl ?_ | refine r_aloadq dX1_bestHouse_74 rfl ?_ | refine r_aloadN dX1_bestHouse_74 rfl ?_
      refine r_getfieldN 2 0 dX1_bestHouse_76 rfl (Nat.le_of_ble_eq_true rfl) (lkT q208 rfl) (Or.inl rfl) (Or.inl (c_h hi i hi2)) (by rfl) ?_
      refine r_invD (owner := "BrushSellers$Placed") dX1_bestHouse_79 (sp_X7_houses (c_s hi k0 hk hs)) rfl mo_X7_houses (Or.inl (c_s hi k0 hk hs)) rfl nw_2 nw_6 q1258 ⟨by decide +kernel, by decide +kernel⟩ nw_8 (lkA q1260) rfl (show _ = some 1 from by decide +kernel) (lkA q102) mp_X7_houses (Nat.le_of_ble_eq_true rfl) (Nat.le_of_ble_eq_true rfl) (Nat.le_of_ble_eq_true rfl) (kr_e ?_) kx_e
      rw [ec]
      first | refine r_aload_n dX1_bestHouse_82 rfl ?_ | refine r_aload_nq dX1_bestHouse_82 rfl ?_ | refine r_aload_nN dX1_bestHouse_82 rfl ?_
      refine r_iload dX1_bestHouse_83 rfl ?_
      refine r_invD (owner := "BrushSellers$Placed") dX1_bestHouse_85 (sp_X7_houses (c_s hi k0 hk hs)) rfl mo_X7_houses (Or.inl (c_s hi k0 hk hs)) rfl nw_2 nw_6 q1258 ⟨by decide +kernel, by decide +kernel⟩ nw_8 (lkA q1260) rfl (show _ = some 1 from by decide +kernel) (lkA q102) mp_X7_houses (Nat.le_of_ble_eq_true rfl) (Nat.le_of_ble_eq_true rfl) (Nat.le_of_ble_eq_true rfl) (kr_e ?_) kx_e
      refine r_icmp_ge 95 dX1_bestHouse_88 rfl (fun c88 => ?_) (fun c88 => ?_)
      · refine r_iconst (v := 0) dX1_bestHouse_95 rfl ?_
        refine r_istore dX1_bestHouse_96 (Nat.le_of_ble_eq_true rfl) ?_
        refine r_iload dX1_bestHouse_98 rfl ?_
        refine r_iload dX1_bestHouse_100 rfl ?_
        refine r_icmp_gt 110 dX1_bestHouse_102 rfl (fun c102 => ?_) (fun c102 => ?_)
        · first | refine r_aload dX1_bestHouse_110 rfl ?_ | refine r_aloadq dX1_bestHouse_110 rfl ?_ | refine r_aloadN dX1_bestHouse_110 rfl ?_
          refine r_getfieldN 2 0 dX1_bestHouse_112 rfl (Nat.le_of_ble_eq_true rfl) (lkT q208 rfl) (Or.inl rfl) (Or.inl (c_h hi i hi2)) (by rfl) ?_
          refine r_istore dX1_bestHouse_115 (Nat.le_of_ble_eq_true rfl) ?_
          refine r_iload dX1_bestHouse_117 rfl ?_
          refine r_istore dX1_bestHouse_119 (Nat.le_of_ble_eq_true rfl) ?_
          refine r_goto 16 dX1_bestHouse_121 rfl ?_
          first
          | exact absurd rfl c107
          | exact absurd c107 (by decide)
          | (refine V_loc (L' := [(5, .int m), (4, .int (nI i)), (6, .ref q), (0, .ref (ad 0)), (1, .ref (ad (70 + k0))), (2, .int (nI b)), (3, .int y)]) ⟨rfl, rfl, rfl, rfl, rfl, rfl, rfl, trivial⟩ ?_; refine kt ?_; first | exact Or.inl (by assumption) | exact Or.inr ⟨Int32.not_le.mp c63, by assumption, by rw [← eB (by rw [← c70]; exact Int32.not_le.mp c63)]; exact Int32.not_le.mp c88⟩)
          | (refine V_loc (L' := [(5, .int M), (4, .int B), (6, .ref q), (0, .ref (ad 0)), (1, .ref (ad (70 + k0))), (2, .int (nI b)), (3, .int y)]) ⟨rfl, rfl, rfl, rfl, rfl, rfl, rfl, trivial⟩ ?_; refine kn (fun e => e.elim (fun e => absurd e (by assumption)) (fun e => ?_)); first | exact absurd e.1 (Int32.not_lt.mpr (by assumption)) | exact absurd e.2.1 (by assumption) | exact absurd (by rw [eB (by rw [← e.2.1]; exact e.1)]; exact e.2.2) (Int32.not_lt.mpr c88))
        · refine r_iload dX1_bestHouse_105 rfl ?_
          refine r_if_eq 121 dX1_bestHouse_107 rfl (fun c107 => ?_) (fun c107 => ?_)
          · refine r_goto 16 dX1_bestHouse_121 rfl ?_
            first
            | exact absurd rfl c107
            | exact absurd c107 (by decide)
            | (refine V_loc (L' := [(5, .int m), (4, .int (nI i)), (6, .ref q), (0, .ref (ad 0)), (1, .ref (ad (70 + k0))), (2, .int (nI b)), (3, .int y)]) ⟨rfl, rfl, rfl, rfl, rfl, rfl, rfl, trivial⟩ ?_; refine kt ?_; first | exact Or.inl (by assumption) | exact Or.inr ⟨Int32.not_le.mp c63, by assumption, by rw [← eB (by rw [← c70]; exact Int32.not_le.mp c63)]; exact Int32.not_le.mp c88⟩)
            | (refine V_loc (L' := [(5, .int M), (4, .int B), (6, .ref q), (0, .ref (ad 0)), (1, .ref (ad (70 + k0))), (2, .int (nI b)), (3, .int y)]) ⟨rfl, rfl, rfl, rfl, rfl, rfl, rfl, trivial⟩ ?_; refine kn (fun e => e.elim (fun e => absurd e (by assumption)) (fun e => ?_)); first | exact absurd e.1 (Int32.not_lt.mpr (by assumption)) | exact absurd e.2.1 (by assumption) | exact absurd (by rw [eB (by rw [← e.2.1]; exact e.1)]; exact e.2.2) (Int32.not_lt.mpr c88))
          · first | refine r_aload dX1_bestHouse_110 rfl ?_ | refine r_aloadq dX1_bestHouse_110 rfl ?_ | refine r_aloadN dX1_bestHouse_110 rfl ?_
            refine r_getfieldN 2 0 dX1_bestHouse_112 rfl (Nat.le_of_ble_eq_true rfl) (lkT q208 rfl) (Or.inl rfl) (Or.inl (c_h hi i hi2)) (by rfl) ?_
            refine r_istore dX1_bestHouse_115 (Nat.le_of_ble_eq_true rfl) ?_
            refine r_iload dX1_bestHouse_117 rfl ?_
            refine r_istore dX1_bestHouse_119 (Nat.le_of_ble_eq_true rfl) ?_
            refine r_goto 16 dX1_bestHouse_121 rfl ?_
            first
            | exact absurd rfl c107
            | exact absurd c107 (by decide)
            | (refine V_loc (L' := [(5, .int m), (4, .int (nI i)), (6, .ref q), (0, .ref (ad 0)), (1, .ref (ad (70 + k0))), (2, .int (nI b)), (3, .int y)]) ⟨rfl, rfl, rfl, rfl, rfl, rfl, rfl, trivial⟩ ?_; refine kt ?_; first | exact Or.inl (by assumption) | exact Or.inr ⟨Int32.not_le.mp c63, by assumption, by rw [← eB (by rw [← c70]; exact Int32.not_le.mp c63)]; exact Int32.not_le.mp c88⟩)
            | (refine V_loc (L' := [(5, .int M), (4, .int B), (6, .ref q), (0, .ref (ad 0)), (1, .ref (ad (70 + k0))), (2, .int (nI b)), (3, .int y)]) ⟨rfl, rfl, rfl, rfl, rfl, rfl, rfl, trivial⟩ ?_; refine kn (fun e => e.elim (fun e => absurd e (by assumption)) (fun e => ?_)); first | exact absurd e.1 (Int32.not_lt.mpr (by assumption)) | exact absurd e.2.1 (by assumption) | exact absurd (by rw [eB (by rw [← e.2.1]; exact e.1)]; exact e.2.2) (Int32.not_lt.mpr c88))
      · refine r_iconst (v := 1) dX1_bestHouse_91 rfl ?_
        refine r_goto 96 dX1_bestHouse_92 rfl ?_
        refine r_istore dX1_bestHouse_96 (Nat.le_of_ble_eq_true rfl) ?_
        refine r_iload dX1_bestHouse_98 rfl ?_
        refine r_iload dX1_bestHouse_100 rfl ?_
        refine r_icmp_gt 110 dX1_bestHouse_102 rfl (fun c102 => ?_) (fun c102 => ?_)
        · first | refine r_aload dX1_bestHouse_110 rfl ?_ | refine r_aloadq dX1_bestHouse_110 rfl ?_ | refine r_aloadN dX1_bestHouse_110 rfl ?_
          refine r_getfieldN 2 0 dX1_bestHouse_112 rfl (Nat.le_of_ble_eq_true rfl) (lkT q208 rfl) (Or.inl rfl) (Or.inl (c_h hi i hi2)) (by rfl) ?_
          refine r_istore dX1_bestHouse_115 (Nat.le_of_ble_eq_true rfl) ?_
          refine r_iload dX1_bestHouse_117 rfl ?_
          refine r_istore dX1_bestHouse_119 (Nat.le_of_ble_eq_true rfl) ?_
          refine r_goto 16 dX1_bestHouse_121 rfl ?_
          first
          | exact absurd rfl c107
          | exact absurd c107 (by decide)
          | (refine V_loc (L' := [(5, .int m), (4, .int (nI i)), (6, .ref q), (0, .ref (ad 0)), (1, .ref (ad (70 + k0))), (2, .int (nI b)), (3, .int y)]) ⟨rfl, rfl, rfl, rfl, rfl, rfl, rfl, trivial⟩ ?_; refine kt ?_; first | exact Or.inl (by assumption) | exact Or.inr ⟨Int32.not_le.mp c63, by assumption, by rw [← eB (by rw [← c70]; exact Int32.not_le.mp c63)]; exact Int32.not_le.mp c88⟩)
          | (refine V_loc (L' := [(5, .int M), (4, .int B), (6, .ref q), (0, .ref (ad 0)), (1, .ref (ad (70 + k0))), (2, .int (nI b)), (3, .int y)]) ⟨rfl, rfl, rfl, rfl, rfl, rfl, rfl, trivial⟩ ?_; refine kn (fun e => e.elim (fun e => absurd e (by assumption)) (fun e => ?_)); first | exact absurd e.1 (Int32.not_lt.mpr (by assumption)) | exact absurd e.2.1 (by assumption) | exact absurd (by rw [eB (by rw [← e.2.1]; exact e.1)]; exact e.2.2) (Int32.not_lt.mpr c88))
        · refine r_iload dX1_bestHouse_105 rfl ?_
          refine r_if_eq 121 dX1_bestHouse_107 rfl (fun c107 => ?_) (fun c107 => ?_)
          · refine r_goto 16 dX1_bestHouse_121 rfl ?_
            first
            | exact absurd rfl c107
            | exact absurd c107 (by decide)
            | (refine V_loc (L' := [(5, .int m), (4, .int (nI i)), (6, .ref q), (0, .ref (ad 0)), (1, .ref (ad (70 + k0))), (2, .int (nI b)), (3, .int y)]) ⟨rfl, rfl, rfl, rfl, rfl, rfl, rfl, trivial⟩ ?_; refine kt ?_; first | exact Or.inl (by assumption) | exact Or.inr ⟨Int32.not_le.mp c63, by assumption, by rw [← eB (by rw [← c70]; exact Int32.not_le.mp c63)]; exact Int32.not_le.mp c88⟩)
            | (refine V_loc (L' := [(5, .int M), (4, .int B), (6, .ref q), (0, .ref (ad 0)), (1, .ref (ad (70 + k0))), (2, .int (nI b)), (3, .int y)]) ⟨rfl, rfl, rfl, rfl, rfl, rfl, rfl, trivial⟩ ?_; refine kn (fun e => e.elim (fun e => absurd e (by assumption)) (fun e => ?_)); first | exact absurd e.1 (Int32.not_lt.mpr (by assumption)) | exact absurd e.2.1 (by assumption) | exact absurd (by rw [eB (by rw [← e.2.1]; exact e.1)]; exact e.2.2) (Int32.not_lt.mpr c88))
          · first | refine r_aload dX1_bestHouse_110 rfl ?_ | refine r_aloadq dX1_bestHouse_110 rfl ?_ | refine r_aloadN dX1_bestHouse_110 rfl ?_
            refine r_getfieldN 2 0 dX1_bestHouse_112 rfl (Nat.le_of_ble_eq_true rfl) (lkT q208 rfl) (Or.inl rfl) (Or.inl (c_h hi i hi2)) (by rfl) ?_
            refine r_istore dX1_bestHouse_115 (Nat.le_of_ble_eq_true rfl) ?_
            refine r_iload dX1_bestHouse_117 rfl ?_
            refine r_istore dX1_bestHouse_119 (Nat.le_of_ble_eq_true rfl) ?_
            refine r_goto 16 dX1_bestHouse_121 rfl ?_
            first
            | exact absurd rfl c107
            | exact absurd c107 (by decide)
            | (refine V_loc (L' := [(5, .int m), (4, .int (nI i)), (6, .ref q), (0, .ref (ad 0)), (1, .ref (ad (70 + k0))), (2, .int (nI b)), (3, .int y)]) ⟨rfl, rfl, rfl, rfl, rfl, rfl, rfl, trivial⟩ ?_; refine kt ?_; first | exact Or.inl (by assumption) | exact Or.inr ⟨Int32.not_le.mp c63, by assumption, by rw [← eB (by rw [← c70]; exact Int32.not_le.mp c63)]; exact Int32.not_le.mp c88⟩)
            | (refine V_loc (L' := [(5, .int M), (4, .int B), (6, .ref q), (0, .ref (ad 0)), (1, .ref (ad (70 + k0))), (2, .int (nI b)), (3, .int y)]) ⟨rfl, rfl, rfl, rfl, rfl, rfl, rfl, trivial⟩ ?_; refine kn (fun e => e.elim (fun e => absurd e (by assumption)) (fun e => ?_)); first | exact absurd e.1 (Int32.not_lt.mpr (by assumption)) | exact absurd e.2.1 (by assumption) | exact absurd (by rw [eB (by rw [← e.2.1]; exact e.1)]; exact e.2.2) (Int32.not_lt.mpr c88))

set_option maxHeartbeats 4000000 in
set_option maxRecDepth 100000 in
theorem lp_best {G : GG} {h : HP} {ad : Nat → Nat} {w : Nat → Int32} (hi : cI ad w) {q : Nat} (hF : cF ad w q = none) (hq : h q = none) (k0 b : Nat) (hk : k0 < 4) (hs : k0 < tn (w 2)) (hb : b < 3) (hbr : 0 ≤ (w (17 + 9 * k0 + (3 + b))).toInt) (hat : 0 ≤ (gSl w k0 1).toInt ∧ (gSl w k0 1).toInt ≤ 19) (hw3 : ∀ m, m < 20 → 0 ≤ (w (53 + 4 * m + 3)).toInt ∧ (w (53 + 4 * m + 3)).toInt ≤ 7) {y : Int32} (hK : KS G) (rr : Int32) (hrr : rr = (gBest w k0 b y 20).1) : ∀ (k i : Nat) (lr : Int32) (B : Int32) (M : Int32), i + k = 20 → (B = (gBest w k0 b y i).1 ∧ M = (gBest w k0 b y i).2.1) → V G 4 M_X1_bestHouse 16 [(5, .int (M)), (4, .int (B)), (6, .ref q), (0, .ref (ad 0)), (1, .ref (ad (70 + k0))), (2, .int (nI b)), (3, .int y)] [] (cH ad w (hu h q (bIt (nI i) lr 20 (ad 1)))) 0 (rQ (fun v h' => v = some (.int rr) ∧ ∃ h1, Ext h h1 ∧ h' = cH ad w h1)) := by
  intro k
  induction k with
  | zero =>
    intro i lr B M hk9 ha
    obtain rfl : i = 20 := by omega
    first | refine r_aload dX1_bestHouse_16 rfl ?_ | refine r_aloadq dX1_bestHouse_16 rfl ?_ | refine r_aloadN dX1_bestHouse_16 rfl ?_
    refine r_invF dX1_bestHouse_18 (sp_J16_hasNext (it_at hF) (c_1 hi)) rfl mo_J16_hasNext (Or.inl (it_at hF)) rfl (lkA q517) ⟨q519, q518, q539, q537, q535⟩ ⟨by decide +kernel, by decide +kernel⟩ (lkA q536) (lkA q538) rfl (show _ = some 0 from by decide +kernel) (lkA q85) mp_J16_hasNext (Nat.le_of_ble_eq_true rfl) (Nat.le_of_ble_eq_true rfl) (Nat.le_of_ble_eq_true rfl) (kr_e ?_) kx_e
    refine r_if_eq 124 dX1_bestHouse_23 rfl (fun c23 => ?_) (fun c23 => absurd c23 (by rw [if_pos ((nI_c (n := 20) (x := 20) rfl (by omega)).mpr rfl)]; decide))
    refine r_iload dX1_bestHouse_124 rfl ?_
    exact r_ireturn dX1_bestHouse_126 rfl (by first | rfl | exact bi_nar) ⟨by rw [hrr, ← ha.1], _, Ext.new hq, rfl⟩
  | succ k ih =>
    intro i lr B M hk9 ha
    have hi2 : i < 20 := by omega
    have hix := nIn (show i < 1000 by omega)
    have hcn : (20 : Int32).toInt = ((20 : Nat) : Int) := rfl
    have hat2 : 0 ≤ (w (17 + 9 * k0 + 1)).toInt ∧ (w (17 + 9 * k0 + 1)).toInt ≤ 19 := hat
    have hok := gBest_ok (w := w) (s := k0) (b := b) (p := y) i (by omega)
    have eB : 0 < M → iabs (w (17 + 9 * k0 + 1) - B) = (gBest w k0 b y i).2.2 := fun e => by
      rcases hok.2 with h0 | h0
      · rw [ha.2, h0] at e; exact absurd e (by decide)
      · rw [h0.1, ha.1]; exact iabs_c (by omega) (by omega)
    first | refine r_aload dX1_bestHouse_16 rfl ?_ | refine r_aloadq dX1_bestHouse_16 rfl ?_ | refine r_aloadN dX1_bestHouse_16 rfl ?_
    refine r_invF dX1_bestHouse_18 (sp_J16_hasNext (it_at hF) (c_1 hi)) rfl mo_J16_hasNext (Or.inl (it_at hF)) rfl (lkA q517) ⟨q519, q518, q539, q537, q535⟩ ⟨by decide +kernel, by decide +kernel⟩ (lkA q536) (lkA q538) rfl (show _ = some 0 from by decide +kernel) (lkA q85) mp_J16_hasNext (Nat.le_of_ble_eq_true rfl) (Nat.le_of_ble_eq_true rfl) (Nat.le_of_ble_eq_true rfl) (kr_e ?_) kx_e
    refine r_if_eq 124 dX1_bestHouse_23 rfl (fun c23 => absurd c23 (by rw [if_neg (fun e => by have := (nI_c (n := 20) (x := 20) rfl (by omega)).mp e; omega)]; decide)) (fun c23 => ?_)
    first | refine r_aload dX1_bestHouse_26 rfl ?_ | refine r_aloadq dX1_bestHouse_26 rfl ?_ | refine r_aloadN dX1_bestHouse_26 rfl ?_
    refine r_invF dX1_bestHouse_28 (sp_J16_next (it_at hF) (c_1 hi) (c_2 hi) hix (by rw [hcn]; omega) (by omega) (by decide) (fHs_at (by omega))) rfl mo_J16_next (Or.inl (it_at hF)) rfl (lkA q551) ⟨q553, q552, q842, q840, q535⟩ ⟨by decide +kernel, by decide +kernel⟩ (lkA q839) (lkA q841) rfl (show _ = some 0 from by decide +kernel) (lkA q85) mp_J16_next (Nat.le_of_ble_eq_true rfl) (Nat.le_of_ble_eq_true rfl) (Nat.le_of_ble_eq_true rfl) (kr_e ?_) kx_e
    rw [it_up hF]
    refine r_castS dX1_bestHouse_33 (Or.inl (c_h hi i hi2)) rfl (lkA q176) ?_
    first | refine r_astore dX1_bestHouse_36 (Nat.le_of_ble_eq_true rfl) ?_ | refine r_astoreq dX1_bestHouse_36 (Nat.le_of_ble_eq_true rfl) ?_ | refine r_astoreN dX1_bestHouse_36 (Nat.le_of_ble_eq_true rfl) ?_
    first | refine r_aload dX1_bestHouse_38 rfl ?_ | refine r_aloadq dX1_bestHouse_38 rfl ?_ | refine r_aloadN dX1_bestHouse_38 rfl ?_
    refine r_invV dX1_bestHouse_40 (sp_X2_isGuarded (c_h hi i hi2)) rfl mo_X2_isGuarded (Or.inl (c_h hi i hi2)) rfl (lkA q1298) (lkA q1299) (lkA q1300) rfl (lkA q71) mp_X2_isGuarded (Nat.le_of_ble_eq_true rfl) (Nat.le_of_ble_eq_true rfl) (Nat.le_of_ble_eq_true rfl) (kr_e ?_) kx_e
    rw [show decide ((7 : Int32) ≤ gDg w i) = decide (7 ≤ gMd w i) from decide_eq_decide.mpr gd_7]
    refine r_if_eq 50 dX1_bestHouse_43 rfl (fun c43 => ?_) (fun c43 => ?_)
    · first | refine r_aload_n dX1_bestHouse_50 rfl ?_ | refine r_aload_nq dX1_bestHouse_50 rfl ?_ | refine r_aload_nN dX1_bestHouse_50 rfl ?_
      first | refine r_aload_n dX1_bestHouse_51 rfl ?_ | refine r_aload_nq dX1_bestHouse_51 rfl ?_ | refine r_aload_nN dX1_bestHouse_51 rfl ?_
      first | refine r_aload dX1_bestHouse_52 rfl ?_ | refine r_aloadq dX1_bestHouse_52 rfl ?_ | refine r_aloadN dX1_bestHouse_52 rfl ?_
      refine r_iload_n dX1_bestHouse_54 rfl ?_
      refine r_iload_n dX1_bestHouse_55 rfl ?_
      refine r_invV dX1_bestHouse_56 (sp_X1_would hi hK k0 i b hk hs hi2 hb (hw3 i hi2).1 (hw3 i hi2).2) rfl mo_X1_would (Or.inl (c_0 hi)) rfl (lkA q1353) (lkA q1327) (lkA q1328) rfl (lkA q65) mp_X1_would (Nat.le_of_ble_eq_true rfl) (Nat.le_of_ble_eq_true rfl) (Nat.le_of_ble_eq_true rfl) (kr_e ?_) kx_e
      refine V_loc (L' := [(7, .ref (ad (10 + i))), (5, .int M), (4, .int B), (6, .ref q), (0, .ref (ad 0)), (1, .ref (ad (70 + k0))), (2, .int (nI b)), (3, .int y)]) ⟨rfl, rfl, rfl, rfl, rfl, rfl, rfl, rfl, trivial⟩ ?_
      rw [show gWd w k0 i b y = gMany w k0 b y i by rw [gWd_eq hbr]; unfold gMany; rw [if_neg (of_decide_eq_false (bi_0.mp c43))]]
      refine best_59 hi k0 b hk hs hb hbr hat hw3 hi2 eB (fun e => ?_) (fun e => ?_)
      · rw [ha.2] at e
        rw [← nI_succ]
        exact ih (i + 1) _ _ _ (by omega) (by rw [gBest_t ((best_c gMany_nn hok.1).mpr e)]; exact ⟨rfl, rfl⟩)
      · rw [ha.2] at e
        rw [← nI_succ]
        exact ih (i + 1) _ _ _ (by omega) (by rw [gBest_k (Decidable.not_not.mp (fun e2 => e ((best_c gMany_nn hok.1).mp e2)))]; exact ha)
    · refine r_iconst (v := 0) dX1_bestHouse_46 rfl ?_
      refine r_goto 59 dX1_bestHouse_47 rfl ?_
      refine V_loc (L' := [(7, .ref (ad (10 + i))), (5, .int M), (4, .int B), (6, .ref q), (0, .ref (ad 0)), (1, .ref (ad (70 + k0))), (2, .int (nI b)), (3, .int y)]) ⟨rfl, rfl, rfl, rfl, rfl, rfl, rfl, rfl, trivial⟩ ?_
      rw [show (0 : Int32) = gMany w k0 b y i by unfold gMany; rw [if_pos (of_decide_eq_true (bi_n0.mp c43))]]
      refine best_59 hi k0 b hk hs hb hbr hat hw3 hi2 eB (fun e => ?_) (fun e => ?_)
      · rw [ha.2] at e
        rw [← nI_succ]
        exact ih (i + 1) _ _ _ (by omega) (by rw [gBest_t ((best_c gMany_nn hok.1).mpr e)]; exact ⟨rfl, rfl⟩)
      · rw [ha.2] at e
        rw [← nI_succ]
        exact ih (i + 1) _ _ _ (by omega) (by rw [gBest_k (Decidable.not_not.mp (fun e2 => e ((best_c gMany_nn hok.1).mp e2)))]; exact ha)

set_option maxHeartbeats 4000000 in
set_option maxRecDepth 100000 in
theorem sp_X1_bestHouse {G : GG} {h : HP} {ad : Nat → Nat} {w : Nat → Int32} (hi : cI ad w) (hK : KS G) (k0 b : Nat) (hk : k0 < 4) (hs : k0 < tn (w 2)) (hb : b < 3) (hbr : 0 ≤ (w (17 + 9 * k0 + (3 + b))).toInt) (hat : 0 ≤ (gSl w k0 1).toInt ∧ (gSl w k0 1).toInt ≤ 19) (hw3 : ∀ m, m < 20 → 0 ≤ (w (53 + 4 * m + 3)).toInt ∧ (w (53 + 4 * m + 3)).toInt ≤ 7) {y : Int32}  : Ct G 4 5 M_X1_bestHouse [.ref (ad 0), .ref (ad (70 + k0)), .int (nI b), .int y] (cH ad w h) (rQ (fun v h' => v = some (.int (gBest w k0 b y 20).1) ∧ ∃ h1, Ext h h1 ∧ h' = cH ad w h1)) := by
  refine ct_intro my_X1_bestHouse (Nat.le_of_ble_eq_true rfl) ?_
  refine r_bipush (v := (-15)) dX1_bestHouse_0 rfl ?_
  refine r_istore dX1_bestHouse_2 (Nat.le_of_ble_eq_true rfl) ?_
  refine r_iconst (v := 0) dX1_bestHouse_4 rfl ?_
  refine r_istore dX1_bestHouse_5 (Nat.le_of_ble_eq_true rfl) ?_
  first | refine r_aload_n dX1_bestHouse_7 rfl ?_ | refine r_aload_nq dX1_bestHouse_7 rfl ?_ | refine r_aload_nN dX1_bestHouse_7 rfl ?_
  refine r_getfield 1 0 dX1_bestHouse_8 rfl (Nat.le_of_ble_eq_true rfl) (lkA q296) (Or.inl rfl) (Or.inl (by first | exact c_0 hi | exact c_1 hi | exact c_2 hi | exact c_3 hi | exact c_4 hi | exact c_5 hi | exact c_6 hi)) (by rfl) ?_
  refine r_invV dX1_bestHouse_11 (sp_J2_iterator (c_1 hi)) rfl mo_J2_iterator (Or.inl (c_1 hi)) rfl (lkA q491) (lkA q492) (lkA q493) rfl (lkA q68) mp_J2_iterator (Nat.le_of_ble_eq_true rfl) (Nat.le_of_ble_eq_true rfl) (Nat.le_of_ble_eq_true rfl) (kr_r (fun v9 h9 p9 => ?_)) kx_r
  obtain ⟨q, rfl, hq, rfl⟩ := p9
  rw [cH_new hq]
  first | refine r_astore dX1_bestHouse_14 (Nat.le_of_ble_eq_true rfl) ?_ | refine r_astoreq dX1_bestHouse_14 (Nat.le_of_ble_eq_true rfl) ?_ | refine r_astoreN dX1_bestHouse_14 (Nat.le_of_ble_eq_true rfl) ?_
  refine V_loc (L' := [(5, .int (0)), (4, .int (-15)), (6, .ref q), (0, .ref (ad 0)), (1, .ref (ad (70 + k0))), (2, .int (nI b)), (3, .int y)]) ⟨rfl, rfl, rfl, rfl, rfl, rfl, rfl, trivial⟩ ?_
  exact lp_best hi (it_F hq) (ov_none hq).2 k0 b hk hs hb hbr hat hw3 hK _ rfl 20 0 (-1) (-15) 0 (by omega) ⟨rfl, rfl⟩

