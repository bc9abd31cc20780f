set_option maxRecDepth 100000
def hOf (w : Nat → Int32) (h : Nat) (hx : Int32) : Nat → Int32 := fun k => match k with
  | 0 => gSteps hx
  | 1 => gTm w h
  | 2 => if gMd w h < 0 then -15 else gMd w h
  | 3 => w (53 + 4 * h + 2)
  | 4 => w (53 + 4 * h + 3)
  | _ => -12
def oHouseOf (w : Nat → Int32) (h k : Int32) : Int32 := if isH h = true then (if 0 ≤ k.toInt ∧ k.toInt ≤ 4 then hOf w (tn h) h (tn k) else -12) else -11
theorem oHo_in {w : Nat → Int32} {h k : Int32} (n : Nat) (hh : isH h = true) (hk : k.toInt = (n : Int)) (hn : n ≤ 4) : oHouseOf w h k = hOf w (tn h) h n := by
  unfold oHouseOf
  rw [if_pos hh, if_pos (by omega), show tn k = n by unfold tn; omega]
theorem oHo_out {w : Nat → Int32} {h k : Int32} (hh : isH h = true) (hk : k.toInt < 0 ∨ 4 < k.toInt) : oHouseOf w h k = -12 := by
  unfold oHouseOf
  rw [if_pos hh, if_neg (by omega)]
set_option maxHeartbeats 4000000 in
set_option maxRecDepth 100000 in
theorem sp_X3_houseOf {G : GG} {A : Nat → Nat} {S : Nat → Nat → Int32} {h : HP} (hi : inj 8 mdom A) {x y : Int32} : Ct G 2 0 M_X3_houseOf [.ref (A 7), .int x, .int y] (ov (mdH A S) h) (eQ (some (.int (oHouseOf (S 0) x y))) (ov (mdH A S) h)) := by
  refine ct_intro my_X3_houseOf (Nat.le_of_ble_eq_true rfl) ?_
  refine r_iload_n dX3_houseOf_0 rfl ?_
  refine r_invS dX3_houseOf_1 (sp_X3_isHouse ) rfl mo_X3_isHouse (lkA q1962) (lkA q1963) (lkA q82) mp_X3_isHouse (Nat.le_of_ble_eq_true rfl) (Nat.le_of_ble_eq_true rfl) (Nat.le_of_ble_eq_true rfl) (kr_e ?_) kx_e
  refine r_if_ne 10 dX3_houseOf_4 rfl (fun c4 => ?_) (fun c4 => ?_)
  · have hH := isH_of c4
    refine r_iload_n dX3_houseOf_10 rfl ?_
    rcases (show y.toInt < 0 ∨ 4 < y.toInt ∨ y.toInt = 0 ∨ y.toInt = 1 ∨ y.toInt = 2 ∨ y.toInt = 3 ∨ y.toInt = 4 by omega) with hsw | hsw | hsw | hsw | hsw | hsw | hsw
    · refine r_tableOut 90 dX3_houseOf_11 (Or.inl hsw) rfl ?_
      refine r_bipush (v := (-12)) dX3_houseOf_90 rfl ?_
      exact r_ireturn dX3_houseOf_92 rfl (by first | rfl | exact bi_nar) (by refine ⟨?_, rfl⟩; rw [oHo_out hH.1 (Or.inl hsw)])
    · refine r_tableOut 90 dX3_houseOf_11 (Or.inr hsw) rfl ?_
      refine r_bipush (v := (-12)) dX3_houseOf_90 rfl ?_
      exact r_ireturn dX3_houseOf_92 rfl (by first | rfl | exact bi_nar) (by refine ⟨?_, rfl⟩; rw [oHo_out hH.1 (Or.inr hsw)])
    · obtain rfl : y = 0 := i32_eq.mpr hsw
      refine r_tableIn (off := 33) 44 dX3_houseOf_11 (by decide) (by decide) rfl rfl ?_
      refine r_iload_n dX3_houseOf_44 rfl ?_
      refine r_invS dX3_houseOf_45 (sp_X3_steps ) rfl mo_X3_steps (lkA q2020) (lkA q2021) (lkA q82) mp_X3_steps (Nat.le_of_ble_eq_true rfl) (Nat.le_of_ble_eq_true rfl) (Nat.le_of_ble_eq_true rfl) (kr_e ?_) kx_e
      exact r_ireturn dX3_houseOf_48 rfl (by first | rfl | exact bi_nar) (by refine ⟨?_, rfl⟩; rw [oHo_in 0 hH.1 rfl (by decide)]; rfl)
    · obtain rfl : y = 1 := i32_eq.mpr hsw
      refine r_tableIn (off := 38) 49 dX3_houseOf_11 (by decide) (by decide) rfl rfl ?_
      first | refine r_aload_n dX3_houseOf_49 rfl ?_ | refine r_aload_nq dX3_houseOf_49 rfl ?_ | refine r_aload_nN dX3_houseOf_49 rfl ?_
      refine r_iload_n dX3_houseOf_50 rfl ?_
      refine r_invV dX3_houseOf_51 (sp_X3_temper hi (tn x) hH.2.1 hH.2.2) rfl mo_X3_temper (Or.inl (m_o hi)) rfl (lkA q2023) (lkA q2025) (lkA qs42) rfl (lkA q82) mp_X3_temper (Nat.le_of_ble_eq_true rfl) (Nat.le_of_ble_eq_true rfl) (Nat.le_of_ble_eq_true rfl) (kr_e ?_) kx_e
      exact r_ireturn dX3_houseOf_54 rfl (by first | rfl | exact bi_nar) (by refine ⟨?_, rfl⟩; rw [oHo_in 1 hH.1 rfl (by decide)]; rfl)
    · obtain rfl : y = 2 := i32_eq.mpr hsw
      refine r_tableIn (off := 44) 55 dX3_houseOf_11 (by decide) (by decide) rfl rfl ?_
      first | refine r_aload_n dX3_houseOf_55 rfl ?_ | refine r_aload_nq dX3_houseOf_55 rfl ?_ | refine r_aload_nN dX3_houseOf_55 rfl ?_
      refine r_iload_n dX3_houseOf_56 rfl ?_
      refine r_invV dX3_houseOf_57 (sp_X3_mood hi (tn x) hH.2.1 hH.2.2) rfl mo_X3_mood (Or.inl (m_o hi)) rfl (lkA q1965) (lkA q1967) (lkA qs33) rfl (lkA q82) mp_X3_mood (Nat.le_of_ble_eq_true rfl) (Nat.le_of_ble_eq_true rfl) (Nat.le_of_ble_eq_true rfl) (kr_e ?_) kx_e
      refine r_if_ge 68 dX3_houseOf_60 rfl (fun c60 => ?_) (fun c60 => ?_)
      · first | refine r_aload_n dX3_houseOf_68 rfl ?_ | refine r_aload_nq dX3_houseOf_68 rfl ?_ | refine r_aload_nN dX3_houseOf_68 rfl ?_
        refine r_iload_n dX3_houseOf_69 rfl ?_
        refine r_invV dX3_houseOf_70 (sp_X3_mood hi (tn x) hH.2.1 hH.2.2) rfl mo_X3_mood (Or.inl (m_o hi)) rfl (lkA q1965) (lkA q1967) (lkA qs33) rfl (lkA q82) mp_X3_mood (Nat.le_of_ble_eq_true rfl) (Nat.le_of_ble_eq_true rfl) (Nat.le_of_ble_eq_true rfl) (kr_e ?_) kx_e
        exact r_ireturn dX3_houseOf_73 rfl (by first | rfl | exact bi_nar) (by refine ⟨?_, rfl⟩; rw [oHo_in 2 hH.1 rfl (by decide)]; show _ = some (Value.int (if _ then _ else _)); rw [if_neg (Int32.not_lt.mpr c60)])
      · refine r_bipush (v := (-15)) dX3_houseOf_63 rfl ?_
        refine r_goto 73 dX3_houseOf_65 rfl ?_
        exact r_ireturn dX3_houseOf_73 rfl (by first | rfl | exact bi_nar) (by refine ⟨?_, rfl⟩; rw [oHo_in 2 hH.1 rfl (by decide)]; show _ = some (Value.int (if _ then _ else _)); rw [if_pos (Int32.not_le.mp c60)])
    · obtain rfl : y = 3 := i32_eq.mpr hsw
      refine r_tableIn (off := 63) 74 dX3_houseOf_11 (by decide) (by decide) rfl rfl ?_
      first | refine r_aload_n dX3_houseOf_74 rfl ?_ | refine r_aload_nq dX3_houseOf_74 rfl ?_ | refine r_aload_nN dX3_houseOf_74 rfl ?_
      refine r_getfield 3 0 dX3_houseOf_75 rfl (Nat.le_of_ble_eq_true rfl) (lkA q1890) (Or.inl rfl) (Or.inl (m_o hi)) (by rfl) ?_
      refine r_bipush (v := 53) dX3_houseOf_78 rfl ?_
      refine r_iconst (v := 4) dX3_houseOf_80 rfl ?_
      refine r_iload_n dX3_houseOf_81 rfl ?_
      refine r_imul dX3_houseOf_82 ?_
      refine r_iadd dX3_houseOf_83 ?_
      refine r_iload_n dX3_houseOf_84 rfl ?_
      refine r_iadd dX3_houseOf_85 ?_
      refine r_iconst (v := 1) dX3_houseOf_86 rfl ?_
      refine r_isub dX3_houseOf_87 ?_
      refine r_iaload (53 + 4 * tn x + 2) dX3_houseOf_88 (by first | exact Or.inl (m_a0 hi) | exact Or.inl (m_a1 hi) | exact Or.inl (m_a2 hi) | exact Or.inl (m_a3 hi) | exact Or.inl (m_a4 hi) | exact Or.inl (m_a5 hi) | exact Or.inl (m_a6 hi)) (by have := hH.2.1; have := hH.2.2; simp only [tI_add, tI_sub, tI_mul, tI_neg, Int32.reduceToInt]; omega) (by have := hH.2.2; omega) rfl ?_
      exact r_ireturn dX3_houseOf_89 rfl (by first | rfl | exact bi_nar) (by refine ⟨?_, rfl⟩; rw [oHo_in 3 hH.1 rfl (by decide)]; rfl)
    · obtain rfl : y = 4 := i32_eq.mpr hsw
      refine r_tableIn (off := 63) 74 dX3_houseOf_11 (by decide) (by decide) rfl rfl ?_
      first | refine r_aload_n dX3_houseOf_74 rfl ?_ | refine r_aload_nq dX3_houseOf_74 rfl ?_ | refine r_aload_nN dX3_houseOf_74 rfl ?_
      refine r_getfield 3 0 dX3_houseOf_75 rfl (Nat.le_of_ble_eq_true rfl) (lkA q1890) (Or.inl rfl) (Or.inl (m_o hi)) (by rfl) ?_
      refine r_bipush (v := 53) dX3_houseOf_78 rfl ?_
      refine r_iconst (v := 4) dX3_houseOf_80 rfl ?_
      refine r_iload_n dX3_houseOf_81 rfl ?_
      refine r_imul dX3_houseOf_82 ?_
      refine r_iadd dX3_houseOf_83 ?_
      refine r_iload_n dX3_houseOf_84 rfl ?_
      refine r_iadd dX3_houseOf_85 ?_
      refine r_iconst (v := 1) dX3_houseOf_86 rfl ?_
      refine r_isub dX3_houseOf_87 ?_
      refine r_iaload (53 + 4 * tn x + 3) dX3_houseOf_88 (by first | exact Or.inl (m_a0 hi) | exact Or.inl (m_a1 hi) | exact Or.inl (m_a2 hi) | exact Or.inl (m_a3 hi) | exact Or.inl (m_a4 hi) | exact Or.inl (m_a5 hi) | exact Or.inl (m_a6 hi)) (by have := hH.2.1; have := hH.2.2; simp only [tI_add, tI_sub, tI_mul, tI_neg, Int32.reduceToInt]; omega) (by have := hH.2.2; omega) rfl ?_
      exact r_ireturn dX3_houseOf_89 rfl (by first | rfl | exact bi_nar) (by refine ⟨?_, rfl⟩; rw [oHo_in 4 hH.1 rfl (by decide)]; rfl)
  · refine r_bipush (v := (-11)) dX3_houseOf_7 rfl ?_
    exact r_ireturn dX3_houseOf_9 rfl (by first | rfl | exact bi_nar) (by refine ⟨?_, rfl⟩; (try simp only [bi_0, Bool.not_eq_false, s10, ss0, ← Int32.not_lt, Classical.not_not] at c4); simp only [oHouseOf, ← Int32.not_lt, c4, if_true, if_false, eq_self, Bool.false_eq_true, not_true_eq_false, not_false_eq_true, true_and, and_true, false_and, and_false, decide_true, decide_false, Bool.not_true, Bool.not_false, Bool.true_and, Bool.false_and]; try rfl)

def gCase (w : Nat → Int32) (s : Nat) : Nat → Int32 → Int32
  | 0, a => a
  | n + 1, a => gCase w s n a + gSl w s (3 + n)
def gCases (w : Nat → Int32) : Nat → Int32
  | 0 => 0
  | n + 1 => gCase w n 3 (gCases w n)
set_option maxHeartbeats 4000000 in
set_option maxRecDepth 100000 in
theorem inCases_2 {G : GG} {A : Nat → Nat} {S : Nat → Nat → Int32} {h : HP} (hi : inj 8 mdom A) (m : Nat) (hm : (S 0 2).toInt = (m : Int)) (hm4 : m ≤ 4) (rr : Int32) (hrr : rr = gCases (S 0) m) : V G 1 M_X3_inCases 4 [(2, .int (0)), (1, .int (0)), (0, .ref (A 7))] [] (ov (mdH A S) h) 0 (eQ (some (.int rr)) (ov (mdH A S) h)) := by
  have loop : ∀ (n i : Nat) (q a : Int32), q.toInt = (i : Int) → i + n = m → a = gCases (S 0) i → V G 1 M_X3_inCases 4 [(2, .int (q)), (1, .int (a)), (0, .ref (A 7))] [] (ov (mdH A S) h) 0 (eQ (some (.int rr)) (ov (mdH A S) h)) := by
    intro n
    induction n with
    | zero =>
      intro i q a hq hn ha
      have hN : i = m := by omega
      subst hN
      rw [hrr, ← ha]
      refine r_iload_n dX3_inCases_4 rfl ?_
      first | refine r_aload_n dX3_inCases_5 rfl ?_ | refine r_aload_nq dX3_inCases_5 rfl ?_ | refine r_aload_nN dX3_inCases_5 rfl ?_
      refine r_getfield 3 0 dX3_inCases_6 rfl (Nat.le_of_ble_eq_true rfl) (lkA q1890) (Or.inl rfl) (Or.inl (m_o hi)) (by rfl) ?_
      refine r_iconst (v := 2) dX3_inCases_9 rfl ?_
      refine r_iaload (2) dX3_inCases_10 (by first | exact Or.inl (m_a0 hi) | exact Or.inl (m_a1 hi) | exact Or.inl (m_a2 hi) | exact Or.inl (m_a3 hi) | exact Or.inl (m_a4 hi) | exact Or.inl (m_a5 hi) | exact Or.inl (m_a6 hi)) rfl (Nat.le_of_ble_eq_true rfl) rfl ?_
      refine r_icmp_ge 44 dX3_inCases_11 rfl (fun c11 => ?_) (fun c11 => absurd c11 (by intro hq0; rw [Int32.le_iff_toInt_le, hm, hq] at hq0; omega))
      refine r_iload_n dX3_inCases_44 rfl ?_
      exact r_ireturn dX3_inCases_45 rfl (by first | rfl | exact bi_nar) (by first | exact ⟨rfl, rfl⟩ | rfl)
    | succ n ih =>
      intro i q a hq hn ha
      have inner : ∀ (k j : Nat) (u b : Int32), u.toInt = (j : Int) → j + k = 3 → b = gCase (S 0) i j a → V G 1 M_X3_inCases 16 [(3, .int (u)), (1, .int (b)), (2, .int (q)), (0, .ref (A 7))] [] (ov (mdH A S) h) 0 (eQ (some (.int rr)) (ov (mdH A S) h)) := by
        intro k
        induction k with
        | zero =>
          intro j u b hu hk hb
          have hJ : j = 3 := by omega
          subst hJ
          refine r_iload_n dX3_inCases_16 rfl ?_
          refine r_iconst (v := 3) dX3_inCases_17 rfl ?_
          refine r_icmp_ge 38 dX3_inCases_18 rfl (fun c18 => ?_) (fun c18 => absurd c18 (by intro hq; simp only [i32_eq, Int32.lt_iff_toInt_lt, Int32.le_iff_toInt_le, tI_add, tI_sub, tI_mul, tI_neg, Int32.reduceToInt] at hq; omega))
          refine r_inc 1 dX3_inCases_38 rfl rfl (Nat.le_of_ble_eq_true rfl) ?_
          refine r_goto 4 dX3_inCases_41 rfl ?_
          refine V_loc (L' := [(2, .int (q + 1)), (1, .int (b)), (0, .ref (A 7))]) ⟨rfl, rfl, rfl, trivial⟩ ?_
          exact ih (i + 1) _ _ (by (try simp only [tI_add, tI_sub, tI_mul, tI_neg, Int32.reduceToInt]); omega) (by omega) (by rw [hb, ha]; rfl)
        | succ k ihk =>
          intro j u b hu hk hb
          refine r_iload_n dX3_inCases_16 rfl ?_
          refine r_iconst (v := 3) dX3_inCases_17 rfl ?_
          refine r_icmp_ge 38 dX3_inCases_18 rfl (fun c18 => absurd c18 (by intro hq; simp only [i32_eq, Int32.lt_iff_toInt_lt, Int32.le_iff_toInt_le, tI_add, tI_sub, tI_mul, tI_neg, Int32.reduceToInt] at hq; omega)) (fun c18 => ?_)
          refine r_iload_n dX3_inCases_21 rfl ?_
          first | refine r_aload_n dX3_inCases_22 rfl ?_ | refine r_aload_nq dX3_inCases_22 rfl ?_ | refine r_aload_nN dX3_inCases_22 rfl ?_
          refine r_iload_n dX3_inCases_23 rfl ?_
          refine r_iconst (v := 3) dX3_inCases_24 rfl ?_
          refine r_iload_n dX3_inCases_25 rfl ?_
          refine r_iadd dX3_inCases_26 ?_
          refine r_invV dX3_inCases_27 (sp_X3_of hi i (3 + j) hq (by simp only [tI_add, Int32.reduceToInt]; omega) (by omega)) rfl mo_X3_of (Or.inl (m_o hi)) rfl (lkA q1996) (lkA q1998) (lkA qs38) rfl (lkA q82) mp_X3_of (Nat.le_of_ble_eq_true rfl) (Nat.le_of_ble_eq_true rfl) (Nat.le_of_ble_eq_true rfl) (kr_e ?_) kx_e
          refine r_iadd dX3_inCases_30 ?_
          refine r_istore_n dX3_inCases_31 (Nat.le_of_ble_eq_true rfl) ?_
          refine r_inc 1 dX3_inCases_32 rfl rfl (Nat.le_of_ble_eq_true rfl) ?_
          refine r_goto 16 dX3_inCases_35 rfl ?_
          refine V_loc (L' := [(3, .int (u + 1)), (1, .int (b + gSl (S 0) i (3 + j))), (2, .int (q)), (0, .ref (A 7))]) ⟨rfl, rfl, rfl, rfl, trivial⟩ ?_
          exact ihk (j + 1) _ _ (by (try simp only [tI_add, tI_sub, tI_mul, tI_neg, Int32.reduceToInt]); omega) (by omega) (by rw [hb]; rfl)
      refine r_iload_n dX3_inCases_4 rfl ?_
      first | refine r_aload_n dX3_inCases_5 rfl ?_ | refine r_aload_nq dX3_inCases_5 rfl ?_ | refine r_aload_nN dX3_inCases_5 rfl ?_
      refine r_getfield 3 0 dX3_inCases_6 rfl (Nat.le_of_ble_eq_true rfl) (lkA q1890) (Or.inl rfl) (Or.inl (m_o hi)) (by rfl) ?_
      refine r_iconst (v := 2) dX3_inCases_9 rfl ?_
      refine r_iaload (2) dX3_inCases_10 (by first | exact Or.inl (m_a0 hi) | exact Or.inl (m_a1 hi) | exact Or.inl (m_a2 hi) | exact Or.inl (m_a3 hi) | exact Or.inl (m_a4 hi) | exact Or.inl (m_a5 hi) | exact Or.inl (m_a6 hi)) rfl (Nat.le_of_ble_eq_true rfl) rfl ?_
      refine r_icmp_ge 44 dX3_inCases_11 rfl (fun c11 => absurd c11 (by intro hq0; rw [Int32.le_iff_toInt_le, hm, hq] at hq0; omega)) (fun c11 => ?_)
      refine r_iconst (v := 0) dX3_inCases_14 rfl ?_
      refine r_istore_n dX3_inCases_15 (Nat.le_of_ble_eq_true rfl) ?_
      refine V_loc (L' := [(3, .int (0)), (1, .int (a)), (2, .int (q)), (0, .ref (A 7))]) ⟨rfl, rfl, rfl, rfl, trivial⟩ ?_
      exact inner 3 0 0 a rfl rfl rfl
  exact loop m 0 0 0 rfl (Nat.zero_add m) rfl

set_option maxHeartbeats 4000000 in
set_option maxRecDepth 100000 in
theorem sp_X3_inCases {G : GG} {A : Nat → Nat} {S : Nat → Nat → Int32} {h : HP} (hi : inj 8 mdom A) (m : Nat) (hm : (S 0 2).toInt = (m : Int)) (hm4 : m ≤ 4) : Ct G 1 0 M_X3_inCases [.ref (A 7)] (ov (mdH A S) h) (eQ (some (.int (gCases (S 0) m))) (ov (mdH A S) h)) := by
  refine ct_intro my_X3_inCases (Nat.le_of_ble_eq_true rfl) ?_
  refine r_iconst (v := 0) dX3_inCases_0 rfl ?_
  refine r_istore_n dX3_inCases_1 (Nat.le_of_ble_eq_true rfl) ?_
  refine r_iconst (v := 0) dX3_inCases_2 rfl ?_
  refine r_istore_n dX3_inCases_3 (Nat.le_of_ble_eq_true rfl) ?_
  refine V_loc (L' := [(2, .int (0)), (1, .int (0)), (0, .ref (A 7))]) ⟨rfl, rfl, rfl, trivial⟩ ?_
  exact inCases_2 hi m hm hm4 _ rfl

def accN (S : Nat → Nat → Int32) : Nat → Int32 := fun k => match k with
  | 0 => S 0 0
  | 1 => S 0 1
  | 2 => S 0 2
  | 3 => gDogs (S 0) 20
  | 4 => S 0 14 + S 0 15 + S 0 16
  | 5 => gCases (S 0) (tn (S 0 2))
  | 6 => S 0 5
  | 7 => S 0 6
  | 8 => S 0 7
  | 9 => S 0 8
  | 10 => S 0 4
  | 11 => S 0 9
  | 12 => S 0 10
  | 13 => S 0 11
  | 14 => S 0 3
  | 15 => S 0 12
  | 16 => S 0 13
  | 17 => S 7 3
  | 18 => S 7 0
  | _ => -12
def oAcc (S : Nat → Nat → Int32) (k : Int32) : Int32 := if 0 ≤ k.toInt ∧ k.toInt ≤ 18 then accN S (tn k) else -12
theorem oAcc_in {S : Nat → Nat → Int32} {k : Int32} (n : Nat) (hk : k.toInt = (n : Int)) (hn : n ≤ 18) : oAcc S k = accN S n := by
  unfold oAcc
  rw [if_pos (by omega), show tn k = n by unfold tn; omega]
theorem oAcc_out {S : Nat → Nat → Int32} {k : Int32} (hk : k.toInt < 0 ∨ 18 < k.toInt) : oAcc S k = -12 := by
  unfold oAcc
  rw [if_neg (by omega)]
set_option maxHeartbeats 4000000 in
set_option maxRecDepth 100000 in
theorem sp_X3_account {G : GG} {A : Nat → Nat} {S : Nat → Nat → Int32} {h : HP} (hi : inj 8 mdom A) {x : Int32} (h2 : 0 ≤ (S 0 2).toInt ∧ (S 0 2).toInt ≤ 4) : Ct G 2 0 M_X3_account [.ref (A 7), .int x] (ov (mdH A S) h) (eQ (some (.int (oAcc S x))) (ov (mdH A S) h)) := by
  refine ct_intro my_X3_account (Nat.le_of_ble_eq_true rfl) ?_
  refine r_iload_n dX3_account_0 rfl ?_
  rcases (show x.toInt < 0 ∨ 18 < x.toInt ∨ x.toInt = 0 ∨ x.toInt = 1 ∨ x.toInt = 2 ∨ x.toInt = 3 ∨ x.toInt = 4 ∨ x.toInt = 5 ∨ x.toInt = 6 ∨ x.toInt = 7 ∨ x.toInt = 8 ∨ x.toInt = 9 ∨ x.toInt = 10 ∨ x.toInt = 11 ∨ x.toInt = 12 ∨ x.toInt = 13 ∨ x.toInt = 14 ∨ x.toInt = 15 ∨ x.toInt = 16 ∨ x.toInt = 17 ∨ x.toInt = 18 by omega) with hsw | hsw | hsw | hsw | hsw | hsw | hsw | hsw | hsw | hsw | hsw | hsw | hsw | hsw | hsw | hsw | hsw | hsw | hsw | hsw | hsw
  · refine r_tableOut 223 dX3_account_1 (Or.inl hsw) rfl ?_
    refine r_bipush (v := (-12)) dX3_account_223 rfl ?_
    exact r_ireturn dX3_account_225 rfl (by first | rfl | exact bi_nar) (by refine ⟨?_, rfl⟩; rw [oAcc_out (Or.inl hsw)])
  · refine r_tableOut 223 dX3_account_1 (Or.inr hsw) rfl ?_
    refine r_bipush (v := (-12)) dX3_account_223 rfl ?_
    exact r_ireturn dX3_account_225 rfl (by first | rfl | exact bi_nar) (by refine ⟨?_, rfl⟩; rw [oAcc_out (Or.inr hsw)])
  · obtain rfl : x = 0 := i32_eq.mpr hsw
    refine r_tableIn (off := 91) 92 dX3_account_1 (by decide) (by decide) rfl rfl ?_
    first | refine r_aload_n dX3_account_92 rfl ?_ | refine r_aload_nq dX3_account_92 rfl ?_ | refine r_aload_nN dX3_account_92 rfl ?_
    refine r_getfield 3 0 dX3_account_93 rfl (Nat.le_of_ble_eq_true rfl) (lkA q1890) (Or.inl rfl) (Or.inl (m_o hi)) (by rfl) ?_
    refine r_iconst (v := 0) dX3_account_96 rfl ?_
    refine r_iaload (0) dX3_account_97 (by first | exact Or.inl (m_a0 hi) | exact Or.inl (m_a1 hi) | exact Or.inl (m_a2 hi) | exact Or.inl (m_a3 hi) | exact Or.inl (m_a4 hi) | exact Or.inl (m_a5 hi) | exact Or.inl (m_a6 hi)) rfl (Nat.le_of_ble_eq_true rfl) rfl ?_
    exact r_ireturn dX3_account_98 rfl (by first | rfl | exact bi_nar) (by refine ⟨?_, rfl⟩; rw [oAcc_in 0 rfl (by decide)]; rfl)
  · obtain rfl : x = 1 := i32_eq.mpr hsw
    refine r_tableIn (off := 98) 99 dX3_account_1 (by decide) (by decide) rfl rfl ?_
    first | refine r_aload_n dX3_account_99 rfl ?_ | refine r_aload_nq dX3_account_99 rfl ?_ | refine r_aload_nN dX3_account_99 rfl ?_
    refine r_getfield 3 0 dX3_account_100 rfl (Nat.le_of_ble_eq_true rfl) (lkA q1890) (Or.inl rfl) (Or.inl (m_o hi)) (by rfl) ?_
    refine r_iconst (v := 1) dX3_account_103 rfl ?_
    refine r_iaload (1) dX3_account_104 (by first | exact Or.inl (m_a0 hi) | exact Or.inl (m_a1 hi) | exact Or.inl (m_a2 hi) | exact Or.inl (m_a3 hi) | exact Or.inl (m_a4 hi) | exact Or.inl (m_a5 hi) | exact Or.inl (m_a6 hi)) rfl (Nat.le_of_ble_eq_true rfl) rfl ?_
    exact r_ireturn dX3_account_105 rfl (by first | rfl | exact bi_nar) (by refine ⟨?_, rfl⟩; rw [oAcc_in 1 rfl (by decide)]; rfl)
  · obtain rfl : x = 2 := i32_eq.mpr hsw
    refine r_tableIn (off := 105) 106 dX3_account_1 (by decide) (by decide) rfl rfl ?_
    first | refine r_aload_n dX3_account_106 rfl ?_ | refine r_aload_nq dX3_account_106 rfl ?_ | refine r_aload_nN dX3_account_106 rfl ?_
    refine r_getfield 3 0 dX3_account_107 rfl (Nat.le_of_ble_eq_true rfl) (lkA q1890) (Or.inl rfl) (Or.inl (m_o hi)) (by rfl) ?_
    refine r_iconst (v := 2) dX3_account_110 rfl ?_
    refine r_iaload (2) dX3_account_111 (by first | exact Or.inl (m_a0 hi) | exact Or.inl (m_a1 hi) | exact Or.inl (m_a2 hi) | exact Or.inl (m_a3 hi) | exact Or.inl (m_a4 hi) | exact Or.inl (m_a5 hi) | exact Or.inl (m_a6 hi)) rfl (Nat.le_of_ble_eq_true rfl) rfl ?_
    exact r_ireturn dX3_account_112 rfl (by first | rfl | exact bi_nar) (by refine ⟨?_, rfl⟩; rw [oAcc_in 2 rfl (by decide)]; rfl)
  · obtain rfl : x = 3 := i32_eq.mpr hsw
    refine r_tableIn (off := 112) 113 dX3_account_1 (by decide) (by decide) rfl rfl ?_
    first | refine r_aload_n dX3_account_113 rfl ?_ | refine r_aload_nq dX3_account_113 rfl ?_ | refine r_aload_nN dX3_account_113 rfl ?_
    refine r_invV dX3_account_114 (sp_X3_dogs hi) rfl mo_X3_dogs (Or.inl (m_o hi)) rfl (lkA q1969) (lkA q1971) (lkA qs34) rfl (lkA q82) mp_X3_dogs (Nat.le_of_ble_eq_true rfl) (Nat.le_of_ble_eq_true rfl) (Nat.le_of_ble_eq_true rfl) (kr_e ?_) kx_e
    exact r_ireturn dX3_account_117 rfl (by first | rfl | exact bi_nar) (by refine ⟨?_, rfl⟩; rw [oAcc_in 3 rfl (by decide)]; rfl)
  · obtain rfl : x = 4 := i32_eq.mpr hsw
    refine r_tableIn (off := 117) 118 dX3_account_1 (by decide) (by decide) rfl rfl ?_
    first | refine r_aload_n dX3_account_118 rfl ?_ | refine r_aload_nq dX3_account_118 rfl ?_ | refine r_aload_nN dX3_account_118 rfl ?_
    refine r_invV dX3_account_119 (sp_X3_inDepot hi) rfl mo_X3_inDepot (Or.inl (m_o hi)) rfl (lkA q2200) (lkA q2202) (lkA qs61) rfl (lkA q82) mp_X3_inDepot (Nat.le_of_ble_eq_true rfl) (Nat.le_of_ble_eq_true rfl) (Nat.le_of_ble_eq_true rfl) (kr_e ?_) kx_e
    exact r_ireturn dX3_account_122 rfl (by first | rfl | exact bi_nar) (by refine ⟨?_, rfl⟩; rw [oAcc_in 4 rfl (by decide)]; rfl)
  · obtain rfl : x = 5 := i32_eq.mpr hsw
    refine r_tableIn (off := 122) 123 dX3_account_1 (by decide) (by decide) rfl rfl ?_
    first | refine r_aload_n dX3_account_123 rfl ?_ | refine r_aload_nq dX3_account_123 rfl ?_ | refine r_aload_nN dX3_account_123 rfl ?_
    refine r_invV dX3_account_124 (sp_X3_inCases hi (tn (S 0 2)) (by unfold tn; omega) (by unfold tn; omega)) rfl mo_X3_inCases (Or.inl (m_o hi)) rfl (lkA q2204) (lkA q2206) (lkA qs62) rfl (lkA q82) mp_X3_inCases (Nat.le_of_ble_eq_true rfl) (Nat.le_of_ble_eq_true rfl) (Nat.le_of_ble_eq_true rfl) (kr_e ?_) kx_e
    exact r_ireturn dX3_account_127 rfl (by first | rfl | exact bi_nar) (by refine ⟨?_, rfl⟩; rw [oAcc_in 5 rfl (by decide)]; rfl)
  · obtain rfl : x = 6 := i32_eq.mpr hsw
    refine r_tableIn (off := 127) 128 dX3_account_1 (by decide) (by decide) rfl rfl ?_
    first | refine r_aload_n dX3_account_128 rfl ?_ | refine r_aload_nq dX3_account_128 rfl ?_ | refine r_aload_nN dX3_account_128 rfl ?_
    refine r_getfield 3 0 dX3_account_129 rfl (Nat.le_of_ble_eq_true rfl) (lkA q1890) (Or.inl rfl) (Or.inl (m_o hi)) (by rfl) ?_
    refine r_iconst (v := 5) dX3_account_132 rfl ?_
    refine r_iaload (5) dX3_account_133 (by first | exact Or.inl (m_a0 hi) | exact Or.inl (m_a1 hi) | exact Or.inl (m_a2 hi) | exact Or.inl (m_a3 hi) | exact Or.inl (m_a4 hi) | exact Or.inl (m_a5 hi) | exact Or.inl (m_a6 hi)) rfl (Nat.le_of_ble_eq_true rfl) rfl ?_
    exact r_ireturn dX3_account_134 rfl (by first | rfl | exact bi_nar) (by refine ⟨?_, rfl⟩; rw [oAcc_in 6 rfl (by decide)]; rfl)
  · obtain rfl : x = 7 := i32_eq.mpr hsw
    refine r_tableIn (off := 134) 135 dX3_account_1 (by decide) (by decide) rfl rfl ?_
    first | refine r_aload_n dX3_account_135 rfl ?_ | refine r_aload_nq dX3_account_135 rfl ?_ | refine r_aload_nN dX3_account_135 rfl ?_
    refine r_getfield 3 0 dX3_account_136 rfl (Nat.le_of_ble_eq_true rfl) (lkA q1890) (Or.inl rfl) (Or.inl (m_o hi)) (by rfl) ?_
    refine r_bipush (v := 6) dX3_account_139 rfl ?_
    refine r_iaload (6) dX3_account_141 (by first | exact Or.inl (m_a0 hi) | exact Or.inl (m_a1 hi) | exact Or.inl (m_a2 hi) | exact Or.inl (m_a3 hi) | exact Or.inl (m_a4 hi) | exact Or.inl (m_a5 hi) | exact Or.inl (m_a6 hi)) rfl (Nat.le_of_ble_eq_true rfl) rfl ?_
    exact r_ireturn dX3_account_142 rfl (by first | rfl | exact bi_nar) (by refine ⟨?_, rfl⟩; rw [oAcc_in 7 rfl (by decide)]; rfl)
  · obtain rfl : x = 8 := i32_eq.mpr hsw
    refine r_tableIn (off := 142) 143 dX3_account_1 (by decide) (by decide) rfl rfl ?_
    first | refine r_aload_n dX3_account_143 rfl ?_ | refine r_aload_nq dX3_account_143 rfl ?_ | refine r_aload_nN dX3_account_143 rfl ?_
    refine r_getfield 3 0 dX3_account_144 rfl (Nat.le_of_ble_eq_true rfl) (lkA q1890) (Or.inl rfl) (Or.inl (m_o hi)) (by rfl) ?_
    refine r_bipush (v := 7) dX3_account_147 rfl ?_
    refine r_iaload (7) dX3_account_149 (by first | exact Or.inl (m_a0 hi) | exact Or.inl (m_a1 hi) | exact Or.inl (m_a2 hi) | exact Or.inl (m_a3 hi) | exact Or.inl (m_a4 hi) | exact Or.inl (m_a5 hi) | exact Or.inl (m_a6 hi)) rfl (Nat.le_of_ble_eq_true rfl) rfl ?_
    exact r_ireturn dX3_account_150 rfl (by first | rfl | exact bi_nar) (by refine ⟨?_, rfl⟩; rw [oAcc_in 8 rfl (by decide)]; rfl)
  · obtain rfl : x = 9 := i32_eq.mpr hsw
    refine r_tableIn (off := 150) 151 dX3_account_1 (by decide) (by decide) rfl rfl ?_
    first | refine r_aload_n dX3_account_151 rfl ?_ | refine r_aload_nq dX3_account_151 rfl ?_ | refine r_aload_nN dX3_account_151 rfl ?_
    refine r_getfield 3 0 dX3_account_152 rfl (Nat.le_of_ble_eq_true rfl) (lkA q1890) (Or.inl rfl) (Or.inl (m_o hi)) (by rfl) ?_
    refine r_bipush (v := 8) dX3_account_155 rfl ?_
    refine r_iaload (8) dX3_account_157 (by first | exact Or.inl (m_a0 hi) | exact Or.inl (m_a1 hi) | exact Or.inl (m_a2 hi) | exact Or.inl (m_a3 hi) | exact Or.inl (m_a4 hi) | exact Or.inl (m_a5 hi) | exact Or.inl (m_a6 hi)) rfl (Nat.le_of_ble_eq_true rfl) rfl ?_
    exact r_ireturn dX3_account_158 rfl (by first | rfl | exact bi_nar) (by refine ⟨?_, rfl⟩; rw [oAcc_in 9 rfl (by decide)]; rfl)
  · obtain rfl : x = 10 := i32_eq.mpr hsw
    refine r_tableIn (off := 158) 159 dX3_account_1 (by decide) (by decide) rfl rfl ?_
    first | refine r_aload_n dX3_account_159 rfl ?_ | refine r_aload_nq dX3_account_159 rfl ?_ | refine r_aload_nN dX3_account_159 rfl ?_
    refine r_getfield 3 0 dX3_account_160 rfl (Nat.le_of_ble_eq_true rfl) (lkA q1890) (Or.inl rfl) (Or.inl (m_o hi)) (by rfl) ?_
    refine r_iconst (v := 4) dX3_account_163 rfl ?_
    refine r_iaload (4) dX3_account_164 (by first | exact Or.inl (m_a0 hi) | exact Or.inl (m_a1 hi) | exact Or.inl (m_a2 hi) | exact Or.inl (m_a3 hi) | exact Or.inl (m_a4 hi) | exact Or.inl (m_a5 hi) | exact Or.inl (m_a6 hi)) rfl (Nat.le_of_ble_eq_true rfl) rfl ?_
    exact r_ireturn dX3_account_165 rfl (by first | rfl | exact bi_nar) (by refine ⟨?_, rfl⟩; rw [oAcc_in 10 rfl (by decide)]; rfl)
  · obtain rfl : x = 11 := i32_eq.mpr hsw
    refine r_tableIn (off := 165) 166 dX3_account_1 (by decide) (by decide) rfl rfl ?_
    first | refine r_aload_n dX3_account_166 rfl ?_ | refine r_aload_nq dX3_account_166 rfl ?_ | refine r_aload_nN dX3_account_166 rfl ?_
    refine r_getfield 3 0 dX3_account_167 rfl (Nat.le_of_ble_eq_true rfl) (lkA q1890) (Or.inl rfl) (Or.inl (m_o hi)) (by rfl) ?_
    refine r_bipush (v := 9) dX3_account_170 rfl ?_
    refine r_iaload (9) dX3_account_172 (by first | exact Or.inl (m_a0 hi) | exact Or.inl (m_a1 hi) | exact Or.inl (m_a2 hi) | exact Or.inl (m_a3 hi) | exact Or.inl (m_a4 hi) | exact Or.inl (m_a5 hi) | exact Or.inl (m_a6 hi)) rfl (Nat.le_of_ble_eq_true rfl) rfl ?_
    exact r_ireturn dX3_account_173 rfl (by first | rfl | exact bi_nar) (by refine ⟨?_, rfl⟩; rw [oAcc_in 11 rfl (by decide)]; rfl)
  · obtain rfl : x = 12 := i32_eq.mpr hsw
    refine r_tableIn (off := 173) 174 dX3_account_1 (by decide) (by decide) rfl rfl ?_
    first | refine r_aload_n dX3_account_174 rfl ?_ | refine r_aload_nq dX3_account_174 rfl ?_ | refine r_aload_nN dX3_account_174 rfl ?_
    refine r_getfield 3 0 dX3_account_175 rfl (Nat.le_of_ble_eq_true rfl) (lkA q1890) (Or.inl rfl) (Or.inl (m_o hi)) (by rfl) ?_
    refine r_bipush (v := 10) dX3_account_178 rfl ?_
    refine r_iaload (10) dX3_account_180 (by first | exact Or.inl (m_a0 hi) | exact Or.inl (m_a1 hi) | exact Or.inl (m_a2 hi) | exact Or.inl (m_a3 hi) | exact Or.inl (m_a4 hi) | exact Or.inl (m_a5 hi) | exact Or.inl (m_a6 hi)) rfl (Nat.le_of_ble_eq_true rfl) rfl ?_
    exact r_ireturn dX3_account_181 rfl (by first | rfl | exact bi_nar) (by refine ⟨?_, rfl⟩; rw [oAcc_in 12 rfl (by decide)]; rfl)
  · obtain rfl : x = 13 := i32_eq.mpr hsw
    refine r_tableIn (off := 181) 182 dX3_account_1 (by decide) (by decide) rfl rfl ?_
    first | refine r_aload_n dX3_account_182 rfl ?_ | refine r_aload_nq dX3_account_182 rfl ?_ | refine r_aload_nN dX3_account_182 rfl ?_
    refine r_getfield 3 0 dX3_account_183 rfl (Nat.le_of_ble_eq_true rfl) (lkA q1890) (Or.inl rfl) (Or.inl (m_o hi)) (by rfl) ?_
    refine r_bipush (v := 11) dX3_account_186 rfl ?_
    refine r_iaload (11) dX3_account_188 (by first | exact Or.inl (m_a0 hi) | exact Or.inl (m_a1 hi) | exact Or.inl (m_a2 hi) | exact Or.inl (m_a3 hi) | exact Or.inl (m_a4 hi) | exact Or.inl (m_a5 hi) | exact Or.inl (m_a6 hi)) rfl (Nat.le_of_ble_eq_true rfl) rfl ?_
    exact r_ireturn dX3_account_189 rfl (by first | rfl | exact bi_nar) (by refine ⟨?_, rfl⟩; rw [oAcc_in 13 rfl (by decide)]; rfl)
  · obtain rfl : x = 14 := i32_eq.mpr hsw
    refine r_tableIn (off := 189) 190 dX3_account_1 (by decide) (by decide) rfl rfl ?_
    first | refine r_aload_n dX3_account_190 rfl ?_ | refine r_aload_nq dX3_account_190 rfl ?_ | refine r_aload_nN dX3_account_190 rfl ?_
    refine r_getfield 3 0 dX3_account_191 rfl (Nat.le_of_ble_eq_true rfl) (lkA q1890) (Or.inl rfl) (Or.inl (m_o hi)) (by rfl) ?_
    refine r_iconst (v := 3) dX3_account_194 rfl ?_
    refine r_iaload (3) dX3_account_195 (by first | exact Or.inl (m_a0 hi) | exact Or.inl (m_a1 hi) | exact Or.inl (m_a2 hi) | exact Or.inl (m_a3 hi) | exact Or.inl (m_a4 hi) | exact Or.inl (m_a5 hi) | exact Or.inl (m_a6 hi)) rfl (Nat.le_of_ble_eq_true rfl) rfl ?_
    exact r_ireturn dX3_account_196 rfl (by first | rfl | exact bi_nar) (by refine ⟨?_, rfl⟩; rw [oAcc_in 14 rfl (by decide)]; rfl)
  · obtain rfl : x = 15 := i32_eq.mpr hsw
    refine r_tableIn (off := 196) 197 dX3_account_1 (by decide) (by decide) rfl rfl ?_
    first | refine r_aload_n dX3_account_197 rfl ?_ | refine r_aload_nq dX3_account_197 rfl ?_ | refine r_aload_nN dX3_account_197 rfl ?_
    refine r_getfield 3 0 dX3_account_198 rfl (Nat.le_of_ble_eq_true rfl) (lkA q1890) (Or.inl rfl) (Or.inl (m_o hi)) (by rfl) ?_
    refine r_bipush (v := 12) dX3_account_201 rfl ?_
    refine r_iaload (12) dX3_account_203 (by first | exact Or.inl (m_a0 hi) | exact Or.inl (m_a1 hi) | exact Or.inl (m_a2 hi) | exact Or.inl (m_a3 hi) | exact Or.inl (m_a4 hi) | exact Or.inl (m_a5 hi) | exact Or.inl (m_a6 hi)) rfl (Nat.le_of_ble_eq_true rfl) rfl ?_
    exact r_ireturn dX3_account_204 rfl (by first | rfl | exact bi_nar) (by refine ⟨?_, rfl⟩; rw [oAcc_in 15 rfl (by decide)]; rfl)
  · obtain rfl : x = 16 := i32_eq.mpr hsw
    refine r_tableIn (off := 204) 205 dX3_account_1 (by decide) (by decide) rfl rfl ?_
    first | refine r_aload_n dX3_account_205 rfl ?_ | refine r_aload_nq dX3_account_205 rfl ?_ | refine r_aload_nN dX3_account_205 rfl ?_
    refine r_getfield 3 0 dX3_account_206 rfl (Nat.le_of_ble_eq_true rfl) (lkA q1890) (Or.inl rfl) (Or.inl (m_o hi)) (by rfl) ?_
    refine r_bipush (v := 13) dX3_account_209 rfl ?_
    refine r_iaload (13) dX3_account_211 (by first | exact Or.inl (m_a0 hi) | exact Or.inl (m_a1 hi) | exact Or.inl (m_a2 hi) | exact Or.inl (m_a3 hi) | exact Or.inl (m_a4 hi) | exact Or.inl (m_a5 hi) | exact Or.inl (m_a6 hi)) rfl (Nat.le_of_ble_eq_true rfl) rfl ?_
    exact r_ireturn dX3_account_212 rfl (by first | rfl | exact bi_nar) (by refine ⟨?_, rfl⟩; rw [oAcc_in 16 rfl (by decide)]; rfl)
  · obtain rfl : x = 17 := i32_eq.mpr hsw
    refine r_tableIn (off := 212) 213 dX3_account_1 (by decide) (by decide) rfl rfl ?_
    first | refine r_aload_n dX3_account_213 rfl ?_ | refine r_aload_nq dX3_account_213 rfl ?_ | refine r_aload_nN dX3_account_213 rfl ?_
    refine r_getfield 3 9 dX3_account_214 rfl (Nat.le_of_ble_eq_true rfl) (lkA q1899) (Or.inl rfl) (Or.inl (m_o hi)) (by rfl) ?_
    exact r_ireturn dX3_account_217 rfl (by first | rfl | exact bi_nar) (by refine ⟨?_, rfl⟩; rw [oAcc_in 17 rfl (by decide)]; rfl)
  · obtain rfl : x = 18 := i32_eq.mpr hsw
    refine r_tableIn (off := 217) 218 dX3_account_1 (by decide) (by decide) rfl rfl ?_
    first | refine r_aload_n dX3_account_218 rfl ?_ | refine r_aload_nq dX3_account_218 rfl ?_ | refine r_aload_nN dX3_account_218 rfl ?_
    refine r_getfield 3 3 dX3_account_219 rfl (Nat.le_of_ble_eq_true rfl) (lkA q1893) (Or.inl rfl) (Or.inl (m_o hi)) (by rfl) ?_
    exact r_ireturn dX3_account_222 rfl (by first | rfl | exact bi_nar) (by refine ⟨?_, rfl⟩; rw [oAcc_in 18 rfl (by decide)]; rfl)

def oBal (w : Nat → Int32) : Int32 := if w 5 = w 14 + w 15 + w 16 + gCases w (tn (w 2)) + w 8 + w 6 - w 7 ∧ w 4 = 50 + w 9 - w 10 - w 11 then 1 else 0
set_option maxHeartbeats 4000000 in
set_option maxRecDepth 100000 in
theorem sp_X3_isBalanced {G : GG} {A : Nat → Nat} {S : Nat → Nat → Int32} {h : HP} (hi : inj 8 mdom A) (h2 : 0 ≤ (S 0 2).toInt ∧ (S 0 2).toInt ≤ 4) : Ct G 2 0 M_X3_isBalanced [.ref (A 7)] (ov (mdH A S) h) (eQ (some (.int (oBal (S 0)))) (ov (mdH A S) h)) := by
  refine ct_intro my_X3_isBalanced (Nat.le_of_ble_eq_true rfl) ?_
  first | refine r_aload_n dX3_isBalanced_0 rfl ?_ | refine r_aload_nq dX3_isBalanced_0 rfl ?_ | refine r_aload_nN dX3_isBalanced_0 rfl ?_
  refine r_getfield 3 0 dX3_isBalanced_1 rfl (Nat.le_of_ble_eq_true rfl) (lkA q1890) (Or.inl rfl) (Or.inl (m_o hi)) (by rfl) ?_
  refine r_iconst (v := 5) dX3_isBalanced_4 rfl ?_
  refine r_iaload (5) dX3_isBalanced_5 (by first | exact Or.inl (m_a0 hi) | exact Or.inl (m_a1 hi) | exact Or.inl (m_a2 hi) | exact Or.inl (m_a3 hi) | exact Or.inl (m_a4 hi) | exact Or.inl (m_a5 hi) | exact Or.inl (m_a6 hi)) rfl (Nat.le_of_ble_eq_true rfl) rfl ?_
  first | refine r_aload_n dX3_isBalanced_6 rfl ?_ | refine r_aload_nq dX3_isBalanced_6 rfl ?_ | refine r_aload_nN dX3_isBalanced_6 rfl ?_
  refine r_invV dX3_isBalanced_7 (sp_X3_inDepot hi) rfl mo_X3_inDepot (Or.inl (m_o hi)) rfl (lkA q2200) (lkA q2202) (lkA qs61) rfl (lkA q82) mp_X3_inDepot (Nat.le_of_ble_eq_true rfl) (Nat.le_of_ble_eq_true rfl) (Nat.le_of_ble_eq_true rfl) (kr_e ?_) kx_e
  first | refine r_aload_n dX3_isBalanced_10 rfl ?_ | refine r_aload_nq dX3_isBalanced_10 rfl ?_ | refine r_aload_nN dX3_isBalanced_10 rfl ?_
  refine r_invV dX3_isBalanced_11 (sp_X3_inCases hi (tn (S 0 2)) (by unfold tn; omega) (by unfold tn; omega)) rfl mo_X3_inCases (Or.inl (m_o hi)) rfl (lkA q2204) (lkA q2206) (lkA qs62) rfl (lkA q82) mp_X3_inCases (Nat.le_of_ble_eq_true rfl) (Nat.le_of_ble_eq_true rfl) (Nat.le_of_ble_eq_true rfl) (kr_e ?_) kx_e
  refine r_iadd dX3_isBalanced_14 ?_
  first | refine r_aload_n dX3_isBalanced_15 rfl ?_ | refine r_aload_nq dX3_isBalanced_15 rfl ?_ | refine r_aload_nN dX3_isBalanced_15 rfl ?_
  refine r_getfield 3 0 dX3_isBalanced_16 rfl (Nat.le_of_ble_eq_true rfl) (lkA q1890) (Or.inl rfl) (Or.inl (m_o hi)) (by rfl) ?_
  refine r_bipush (v := 8) dX3_isBalanced_19 rfl ?_
  refine r_iaload (8) dX3_isBalanced_21 (by first | exact Or.inl (m_a0 hi) | exact Or.inl (m_a1 hi) | exact Or.inl (m_a2 hi) | exact Or.inl (m_a3 hi) | exact Or.inl (m_a4 hi) | exact Or.inl (m_a5 hi) | exact Or.inl (m_a6 hi)) rfl (Nat.le_of_ble_eq_true rfl) rfl ?_
  refine r_iadd dX3_isBalanced_22 ?_
  first | refine r_aload_n dX3_isBalanced_23 rfl ?_ | refine r_aload_nq dX3_isBalanced_23 rfl ?_ | refine r_aload_nN dX3_isBalanced_23 rfl ?_
  refine r_getfield 3 0 dX3_isBalanced_24 rfl (Nat.le_of_ble_eq_true rfl) (lkA q1890) (Or.inl rfl) (Or.inl (m_o hi)) (by rfl) ?_
  refine r_bipush (v := 6) dX3_isBalanced_27 rfl ?_
  refine r_iaload (6) dX3_isBalanced_29 (by first | exact Or.inl (m_a0 hi) | exact Or.inl (m_a1 hi) | exact Or.inl (m_a2 hi) | exact Or.inl (m_a3 hi) | exact Or.inl (m_a4 hi) | exact Or.inl (m_a5 hi) | exact Or.inl (m_a6 hi)) rfl (Nat.le_of_ble_eq_true rfl) rfl ?_
  refine r_iadd dX3_isBalanced_30 ?_
  first | refine r_aload_n dX3_isBalanced_31 rfl ?_ | refine r_aload_nq dX3_isBalanced_31 rfl ?_ | refine r_aload_nN dX3_isBalanced_31 rfl ?_
  refine r_getfield 3 0 dX3_isBalanced_32 rfl (Nat.le_of_ble_eq_true rfl) (lkA q1890) (Or.inl rfl) (Or.inl (m_o hi)) (by rfl) ?_
  refine r_bipush (v := 7) dX3_isBalanced_35 rfl ?_
  refine r_iaload (7) dX3_isBalanced_37 (by first | exact Or.inl (m_a0 hi) | exact Or.inl (m_a1 hi) | exact Or.inl (m_a2 hi) | exact Or.inl (m_a3 hi) | exact Or.inl (m_a4 hi) | exact Or.inl (m_a5 hi) | exact Or.inl (m_a6 hi)) rfl (Nat.le_of_ble_eq_true rfl) rfl ?_
  refine r_isub dX3_isBalanced_38 ?_
  refine r_icmp_ne 46 dX3_isBalanced_39 rfl (fun c39 => ?_) (fun c39 => ?_)
  · refine r_iconst (v := 0) dX3_isBalanced_46 rfl ?_
    refine r_istore_n dX3_isBalanced_47 (Nat.le_of_ble_eq_true rfl) ?_
    refine r_iload_n dX3_isBalanced_48 rfl ?_
    refine r_if_eq 91 dX3_isBalanced_49 rfl (fun c49 => ?_) (fun c49 => absurd c49 (by decide))
    refine r_iconst (v := 0) dX3_isBalanced_91 rfl ?_
    exact r_ireturn dX3_isBalanced_92 rfl (by first | rfl | exact bi_nar) (by refine ⟨?_, rfl⟩; rw [oBal, if_neg (fun q => c39 q.1)])
  · refine r_iconst (v := 1) dX3_isBalanced_42 rfl ?_
    refine r_goto 47 dX3_isBalanced_43 rfl ?_
    refine r_istore_n dX3_isBalanced_47 (Nat.le_of_ble_eq_true rfl) ?_
    refine r_iload_n dX3_isBalanced_48 rfl ?_
    refine r_if_eq 91 dX3_isBalanced_49 rfl (fun c49 => absurd c49 (by decide)) (fun c49 => ?_)
    first | refine r_aload_n dX3_isBalanced_52 rfl ?_ | refine r_aload_nq dX3_isBalanced_52 rfl ?_ | refine r_aload_nN dX3_isBalanced_52 rfl ?_
    refine r_getfield 3 0 dX3_isBalanced_53 rfl (Nat.le_of_ble_eq_true rfl) (lkA q1890) (Or.inl rfl) (Or.inl (m_o hi)) (by rfl) ?_
    refine r_iconst (v := 4) dX3_isBalanced_56 rfl ?_
    refine r_iaload (4) dX3_isBalanced_57 (by first | exact Or.inl (m_a0 hi) | exact Or.inl (m_a1 hi) | exact Or.inl (m_a2 hi) | exact Or.inl (m_a3 hi) | exact Or.inl (m_a4 hi) | exact Or.inl (m_a5 hi) | exact Or.inl (m_a6 hi)) rfl (Nat.le_of_ble_eq_true rfl) rfl ?_
    refine r_bipush (v := 50) dX3_isBalanced_58 rfl ?_
    first | refine r_aload_n dX3_isBalanced_60 rfl ?_ | refine r_aload_nq dX3_isBalanced_60 rfl ?_ | refine r_aload_nN dX3_isBalanced_60 rfl ?_
    refine r_getfield 3 0 dX3_isBalanced_61 rfl (Nat.le_of_ble_eq_true rfl) (lkA q1890) (Or.inl rfl) (Or.inl (m_o hi)) (by rfl) ?_
    refine r_bipush (v := 9) dX3_isBalanced_64 rfl ?_
    refine r_iaload (9) dX3_isBalanced_66 (by first | exact Or.inl (m_a0 hi) | exact Or.inl (m_a1 hi) | exact Or.inl (m_a2 hi) | exact Or.inl (m_a3 hi) | exact Or.inl (m_a4 hi) | exact Or.inl (m_a5 hi) | exact Or.inl (m_a6 hi)) rfl (Nat.le_of_ble_eq_true rfl) rfl ?_
    refine r_iadd dX3_isBalanced_67 ?_
    first | refine r_aload_n dX3_isBalanced_68 rfl ?_ | refine r_aload_nq dX3_isBalanced_68 rfl ?_ | refine r_aload_nN dX3_isBalanced_68 rfl ?_
    refine r_getfield 3 0 dX3_isBalanced_69 rfl (Nat.le_of_ble_eq_true rfl) (lkA q1890) (Or.inl rfl) (Or.inl (m_o hi)) (by rfl) ?_
    refine r_bipush (v := 10) dX3_isBalanced_72 rfl ?_
    refine r_iaload (10) dX3_isBalanced_74 (by first | exact Or.inl (m_a0 hi) | exact Or.inl (m_a1 hi) | exact Or.inl (m_a2 hi) | exact Or.inl (m_a3 hi) | exact Or.inl (m_a4 hi) | exact Or.inl (m_a5 hi) | exact Or.inl (m_a6 hi)) rfl (Nat.le_of_ble_eq_true rfl) rfl ?_
    refine r_isub dX3_isBalanced_75 ?_
    first | refine r_aload_n dX3_isBalanced_76 rfl ?_ | refine r_aload_nq dX3_isBalanced_76 rfl ?_ | refine r_aload_nN dX3_isBalanced_76 rfl ?_
    refine r_getfield 3 0 dX3_isBalanced_77 rfl (Nat.le_of_ble_eq_true rfl) (lkA q1890) (Or.inl rfl) (Or.inl (m_o hi)) (by rfl) ?_
    refine r_bipush (v := 11) dX3_isBalanced_80 rfl ?_
    refine r_iaload (11) dX3_isBalanced_82 (by first | exact Or.inl (m_a0 hi) | exact Or.inl (m_a1 hi) | exact Or.inl (m_a2 hi) | exact Or.inl (m_a3 hi) | exact Or.inl (m_a4 hi) | exact Or.inl (m_a5 hi) | exact Or.inl (m_a6 hi)) rfl (Nat.le_of_ble_eq_true rfl) rfl ?_
    refine r_isub dX3_isBalanced_83 ?_
    refine r_icmp_ne 91 dX3_isBalanced_84 rfl (fun c84 => ?_) (fun c84 => ?_)
    · refine r_iconst (v := 0) dX3_isBalanced_91 rfl ?_
      exact r_ireturn dX3_isBalanced_92 rfl (by first | rfl | exact bi_nar) (by refine ⟨?_, rfl⟩; rw [oBal, if_neg (fun q => c84 q.2)])
    · refine r_iconst (v := 1) dX3_isBalanced_87 rfl ?_
      refine r_goto 92 dX3_isBalanced_88 rfl ?_
      exact r_ireturn dX3_isBalanced_92 rfl (by first | rfl | exact bi_nar) (by refine ⟨?_, rfl⟩; rw [oBal, if_pos ⟨c39, c84⟩])

