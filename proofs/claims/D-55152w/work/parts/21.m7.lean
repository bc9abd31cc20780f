set_option maxRecDepth 100000
set_option maxHeartbeats 4000000 in
set_option maxRecDepth 100000 in
theorem sp_X3_would {G : GG} {A : Nat → Nat} {S : Nat → Nat → Int32} {h : HP} (hi : inj 8 mdom A) {D : Int} (hI : Inv D (S 0)) {x y z p : Int32} : Ct G 4 0 M_X3_would [.ref (A 7), .int x, .int y, .int z, .int p] (ov (mdH A S) h) (eQ (some (.int (oWould (S 0) x y z p))) (ov (mdH A S) h)) := by
  refine ct_intro my_X3_would (Nat.le_of_ble_eq_true rfl) ?_
  first | refine r_aload_n dX3_would_0 rfl ?_ | refine r_aload_nq dX3_would_0 rfl ?_ | refine r_aload_nN dX3_would_0 rfl ?_
  refine r_iload_n dX3_would_1 rfl ?_
  refine r_invV dX3_would_2 (sp_X3_isSeller hi) rfl mo_X3_isSeller (Or.inl (m_o hi)) rfl (lkA q1992) (lkA q1994) (lkA qs37) rfl (lkA q82) mp_X3_isSeller (Nat.le_of_ble_eq_true rfl) (Nat.le_of_ble_eq_true rfl) (Nat.le_of_ble_eq_true rfl) (kr_e ?_) kx_e
  refine r_if_eq 22 dX3_would_5 rfl (fun c5 => ?_) (fun c5 => ?_)
  · refine r_bipush (v := (-11)) dX3_would_22 rfl ?_
    exact r_ireturn dX3_would_24 rfl (by first | rfl | exact bi_nar) (by refine ⟨?_, rfl⟩; (try simp only [bi_0, Bool.not_eq_false, s10, ss0, ← Int32.not_lt, Classical.not_not] at c5); simp only [oWould, isP, ← Int32.not_lt, c5, if_true, if_false, eq_self, Bool.false_eq_true, not_true_eq_false, not_false_eq_true, true_and, and_true, false_and, and_false, decide_true, decide_false, Bool.not_true, Bool.not_false, Bool.true_and, Bool.false_and]; try rfl)
  · have hS := isS_of hI c5
    refine r_iload_n dX3_would_8 rfl ?_
    refine r_invS dX3_would_9 (sp_X3_isHouse ) rfl mo_X3_isHouse (lkA q1962) (lkA q1963) (lkA q82) mp_X3_isHouse (Nat.le_of_ble_eq_true rfl) (Nat.le_of_ble_eq_true rfl) (Nat.le_of_ble_eq_true rfl) (kr_e ?_) kx_e
    refine r_if_eq 22 dX3_would_12 rfl (fun c12 => ?_) (fun c12 => ?_)
    · refine r_bipush (v := (-11)) dX3_would_22 rfl ?_
      exact r_ireturn dX3_would_24 rfl (by first | rfl | exact bi_nar) (by refine ⟨?_, rfl⟩; (try simp only [bi_0, Bool.not_eq_false, s10, ss0, ← Int32.not_lt, Classical.not_not] at c5); (try simp only [bi_0, Bool.not_eq_false, s10, ss0, ← Int32.not_lt, Classical.not_not] at c12); simp only [oWould, isP, ← Int32.not_lt, c5, c12, if_true, if_false, eq_self, Bool.false_eq_true, not_true_eq_false, not_false_eq_true, true_and, and_true, false_and, and_false, decide_true, decide_false, Bool.not_true, Bool.not_false, Bool.true_and, Bool.false_and]; try rfl)
    · have hH := isH_of c12
      refine r_iload_n dX3_would_15 rfl ?_
      refine r_invS dX3_would_16 (sp_X3_isBristle ) rfl mo_X3_isBristle (lkA q1977) (lkA q1978) (lkA q82) mp_X3_isBristle (Nat.le_of_ble_eq_true rfl) (Nat.le_of_ble_eq_true rfl) (Nat.le_of_ble_eq_true rfl) (kr_e ?_) kx_e
      refine r_if_ne 25 dX3_would_19 rfl (fun c19 => ?_) (fun c19 => ?_)
      · have hB := isB_of c19
        refine r_iload dX3_would_25 rfl ?_
        refine r_iconst (v := 1) dX3_would_27 rfl ?_
        refine r_bipush (v := 20) dX3_would_28 rfl ?_
        refine r_invS dX3_would_30 (sp_X3_in ) rfl mo_X3_in (lkA q1947) (lkA q1948) (lkA q82) mp_X3_in (Nat.le_of_ble_eq_true rfl) (Nat.le_of_ble_eq_true rfl) (Nat.le_of_ble_eq_true rfl) (kr_e ?_) kx_e
        refine r_if_eq 48 dX3_would_33 rfl (fun c33 => ?_) (fun c33 => ?_)
        · refine r_bipush (v := (-12)) dX3_would_48 rfl ?_
          exact r_ireturn dX3_would_50 rfl (by first | rfl | exact bi_nar) (by refine ⟨?_, rfl⟩; (try simp only [bi_0, Bool.not_eq_false, s10, ss0, ← Int32.not_lt, Classical.not_not] at c5); (try simp only [bi_0, Bool.not_eq_false, s10, ss0, ← Int32.not_lt, Classical.not_not] at c12); (try simp only [bi_0, Bool.not_eq_false, s10, ss0, ← Int32.not_lt, Classical.not_not] at c19); (try simp only [bi_0, Bool.not_eq_false, s10, ss0, ← Int32.not_lt, Classical.not_not] at c33); simp only [oWould, isP, ← Int32.not_lt, c5, c12, c19, c33, if_true, if_false, eq_self, Bool.false_eq_true, not_true_eq_false, not_false_eq_true, true_and, and_true, false_and, and_false, decide_true, decide_false, Bool.not_true, Bool.not_false, Bool.true_and, Bool.false_and]; try rfl)
        · first | refine r_aload_n dX3_would_36 rfl ?_ | refine r_aload_nq dX3_would_36 rfl ?_ | refine r_aload_nN dX3_would_36 rfl ?_
          refine r_iload_n dX3_would_37 rfl ?_
          refine r_iload_n dX3_would_38 rfl ?_
          refine r_iload_n dX3_would_39 rfl ?_
          refine r_iload dX3_would_40 rfl ?_
          refine r_invV dX3_would_42 (sp_X3_wants hi (tn x) (tn y) (tn z) hS.2.1 hH.2.1 hB.2.1 hS.2.2.1 hH.2.2 hB.2.2) rfl mo_X3_wants (Or.inl (m_o hi)) rfl (lkA q2074) (lkA q2076) (lkA qs47) rfl (lkA q82) mp_X3_wants (Nat.le_of_ble_eq_true rfl) (Nat.le_of_ble_eq_true rfl) (Nat.le_of_ble_eq_true rfl) (kr_e ?_) kx_e
          refine r_goto 50 dX3_would_45 rfl ?_
          exact r_ireturn dX3_would_50 rfl (by first | rfl | exact bi_nar) (by refine ⟨?_, rfl⟩; (try simp only [bi_0, Bool.not_eq_false, s10, ss0, ← Int32.not_lt, Classical.not_not] at c5); (try simp only [bi_0, Bool.not_eq_false, s10, ss0, ← Int32.not_lt, Classical.not_not] at c12); (try simp only [bi_0, Bool.not_eq_false, s10, ss0, ← Int32.not_lt, Classical.not_not] at c19); (try simp only [bi_0, Bool.not_eq_false, s10, ss0, ← Int32.not_lt, Classical.not_not] at c33); simp only [oWould, isP, ← Int32.not_lt, c5, c12, c19, c33, if_true, if_false, eq_self, Bool.false_eq_true, not_true_eq_false, not_false_eq_true, true_and, and_true, false_and, and_false, decide_true, decide_false, Bool.not_true, Bool.not_false, Bool.true_and, Bool.false_and]; try rfl)
      · refine r_bipush (v := (-11)) dX3_would_22 rfl ?_
        exact r_ireturn dX3_would_24 rfl (by first | rfl | exact bi_nar) (by refine ⟨?_, rfl⟩; (try simp only [bi_0, Bool.not_eq_false, s10, ss0, ← Int32.not_lt, Classical.not_not] at c5); (try simp only [bi_0, Bool.not_eq_false, s10, ss0, ← Int32.not_lt, Classical.not_not] at c12); (try simp only [bi_0, Bool.not_eq_false, s10, ss0, ← Int32.not_lt, Classical.not_not] at c19); simp only [oWould, isP, ← Int32.not_lt, c5, c12, c19, if_true, if_false, eq_self, Bool.false_eq_true, not_true_eq_false, not_false_eq_true, true_and, and_true, false_and, and_false, decide_true, decide_false, Bool.not_true, Bool.not_false, Bool.true_and, Bool.false_and]; try rfl)

def gMany (w : Nat → Int32) (s b : Nat) (p : Int32) (n : Nat) : Int32 := if 7 ≤ gMd w n then 0 else gWants w s n b p
theorem gBest_k {w : Nat → Int32} {s b : Nat} {p : Int32} {n : Nat} (h : gMany w s b p n = 0 ∨ gMany w s b p n < (gBest w s b p n).2.1 ∨ (gMany w s b p n = (gBest w s b p n).2.1 ∧ (gBest w s b p n).2.2 ≤ iabs (nI n - gSl w s 1))) : gBest w s b p (n + 1) = gBest w s b p n := if_pos h
theorem gBest_t {w : Nat → Int32} {s b : Nat} {p : Int32} {n : Nat} (h : ¬ (gMany w s b p n = 0 ∨ gMany w s b p n < (gBest w s b p n).2.1 ∨ (gMany w s b p n = (gBest w s b p n).2.1 ∧ (gBest w s b p n).2.2 ≤ iabs (nI n - gSl w s 1)))) : gBest w s b p (n + 1) = (nI n, gMany w s b p n, iabs (nI n - gSl w s 1)) := if_neg h
set_option maxHeartbeats 4000000 in
set_option maxRecDepth 100000 in
theorem best_2 {G : GG} {A : Nat → Nat} {S : Nat → Nat → Int32} {h : HP} (hi : inj 8 mdom A) {x y z : Int32} (hS : isS (S 0) x = true ∧ x.toInt = (tn x : Int) ∧ tn x < 4 ∧ (tn x : Int) < (S 0 2).toInt) (hB : isB y = true ∧ y.toInt = (tn y : Int) ∧ tn y < 3) (rr : Int32) (hrr : rr = (gBest (S 0) (tn x) (tn y) z 20).1) : V G 4 M_X3_bestHouse 44 [(7, .int (0)), (6, .int (0)), (5, .int (0)), (4, .int (-15)), (0, .ref (A 7)), (1, .int x), (2, .int y), (3, .int z)] [] (ov (mdH A S) h) 0 (eQ (some (.int rr)) (ov (mdH A S) h)) := by
  have loop : ∀ (n i : Nat) (q a b c : Int32), q.toInt = (i : Int) → i + n = 20 → (a, b, c) = gBest (S 0) (tn x) (tn y) z i → V G 4 M_X3_bestHouse 44 [(7, .int (q)), (6, .int (c)), (5, .int (b)), (4, .int (a)), (0, .ref (A 7)), (1, .int x), (2, .int y), (3, .int z)] [] (ov (mdH A S) h) 0 (eQ (some (.int rr)) (ov (mdH A S) h)) := by
    intro n
    induction n with
    | zero =>
      intro i q a b c hq hn hg
      have hN : i = 20 := by omega
      subst hN
      rw [hrr, ← hg]
      refine r_iload dX3_bestHouse_44 rfl ?_
      refine r_bipush (v := 20) dX3_bestHouse_46 rfl ?_
      refine r_icmp_ge 138 dX3_bestHouse_48 rfl (fun c48 => ?_) (fun c48 => absurd c48 (by intro hq; simp only [i32_eq, Int32.lt_iff_toInt_lt, Int32.le_iff_toInt_le, tI_add, tI_sub, tI_mul, tI_neg, Int32.reduceToInt] at hq; omega))
      refine r_iload dX3_bestHouse_138 rfl ?_
      exact r_ireturn dX3_bestHouse_140 rfl (by first | rfl | exact bi_nar) (by first | exact ⟨rfl, rfl⟩ | rfl)
    | succ n ih =>
      intro i q a b c hq hn hg
      have hqi : nI i = q := by rw [i32_eq, nI_toInt (by omega), hq]
      have key : ∀ m : Int32, m = gMany (S 0) (tn x) (tn y) z i → V G 4 M_X3_bestHouse 75 [(7, .int (q)), (6, .int (c)), (5, .int (b)), (4, .int (a)), (0, .ref (A 7)), (1, .int x), (2, .int y), (3, .int z)] [.int m] (ov (mdH A S) h) 0 (eQ (some (.int rr)) (ov (mdH A S) h)) := by
        intro m hm
        refine r_istore dX3_bestHouse_75 (Nat.le_of_ble_eq_true rfl) ?_
        refine r_iload dX3_bestHouse_77 rfl ?_
        first | refine r_aload_n dX3_bestHouse_79 rfl ?_ | refine r_aload_nq dX3_bestHouse_79 rfl ?_ | refine r_aload_nN dX3_bestHouse_79 rfl ?_
        refine r_iload_n dX3_bestHouse_80 rfl ?_
        refine r_iconst (v := 1) dX3_bestHouse_81 rfl ?_
        refine r_invV dX3_bestHouse_82 (sp_X3_of hi (tn x) 1 hS.2.1 rfl (by have := hS.2.2.1; omega)) rfl mo_X3_of (Or.inl (m_o hi)) rfl (lkA q1996) (lkA q1998) (lkA qs38) rfl (lkA q82) mp_X3_of (Nat.le_of_ble_eq_true rfl) (Nat.le_of_ble_eq_true rfl) (Nat.le_of_ble_eq_true rfl) (kr_e ?_) kx_e
        refine r_isub dX3_bestHouse_85 ?_
        refine r_mabs dX3_bestHouse_86 (lkA q2039) (lkA q1267) (lkA q74) (lkA q1268) (Nat.le_of_ble_eq_true rfl) (Nat.le_of_ble_eq_true rfl) ?_
        refine r_istore dX3_bestHouse_89 (Nat.le_of_ble_eq_true rfl) ?_
        refine r_iload dX3_bestHouse_91 rfl ?_
        refine r_if_eq 132 dX3_bestHouse_93 rfl (fun c93 => ?_) (fun c93 => ?_)
        · refine r_inc 1 dX3_bestHouse_132 rfl rfl (Nat.le_of_ble_eq_true rfl) ?_
          refine r_goto 44 dX3_bestHouse_135 rfl ?_
          refine V_loc (L' := [(7, .int (q + 1)), (6, .int (c)), (5, .int (b)), (4, .int (a)), (0, .ref (A 7)), (1, .int x), (2, .int y), (3, .int z)]) ⟨rfl, rfl, rfl, rfl, rfl, rfl, rfl, rfl, trivial⟩ ?_
          exact ih (i + 1) _ _ _ _ (by (try simp only [tI_add, tI_sub, tI_mul, tI_neg, Int32.reduceToInt]); omega) (by omega) (by rw [gBest_k (by rw [← hg, ← hm, hqi]; exact Or.inl c93)]; exact hg)
        · refine r_iload dX3_bestHouse_96 rfl ?_
          refine r_iload dX3_bestHouse_98 rfl ?_
          refine r_icmp_lt 132 dX3_bestHouse_100 rfl (fun c100 => ?_) (fun c100 => ?_)
          · refine r_inc 1 dX3_bestHouse_132 rfl rfl (Nat.le_of_ble_eq_true rfl) ?_
            refine r_goto 44 dX3_bestHouse_135 rfl ?_
            refine V_loc (L' := [(7, .int (q + 1)), (6, .int (c)), (5, .int (b)), (4, .int (a)), (0, .ref (A 7)), (1, .int x), (2, .int y), (3, .int z)]) ⟨rfl, rfl, rfl, rfl, rfl, rfl, rfl, rfl, trivial⟩ ?_
            exact ih (i + 1) _ _ _ _ (by (try simp only [tI_add, tI_sub, tI_mul, tI_neg, Int32.reduceToInt]); omega) (by omega) (by rw [gBest_k (by rw [← hg, ← hm, hqi]; exact Or.inr (Or.inl c100))]; exact hg)
          · refine r_iload dX3_bestHouse_103 rfl ?_
            refine r_iload dX3_bestHouse_105 rfl ?_
            refine r_icmp_ne 120 dX3_bestHouse_107 rfl (fun c107 => ?_) (fun c107 => ?_)
            · refine r_iload dX3_bestHouse_120 rfl ?_
              refine r_istore dX3_bestHouse_122 (Nat.le_of_ble_eq_true rfl) ?_
              refine r_iload dX3_bestHouse_124 rfl ?_
              refine r_istore dX3_bestHouse_126 (Nat.le_of_ble_eq_true rfl) ?_
              refine r_iload dX3_bestHouse_128 rfl ?_
              refine r_istore dX3_bestHouse_130 (Nat.le_of_ble_eq_true rfl) ?_
              refine r_inc 1 dX3_bestHouse_132 rfl rfl (Nat.le_of_ble_eq_true rfl) ?_
              refine r_goto 44 dX3_bestHouse_135 rfl ?_
              refine V_loc (L' := [(7, .int (q + 1)), (6, .int (iabs (q - gSl (S 0) (tn x) 1))), (5, .int (m)), (4, .int (q)), (0, .ref (A 7)), (1, .int x), (2, .int y), (3, .int z)]) ⟨rfl, rfl, rfl, rfl, rfl, rfl, rfl, rfl, trivial⟩ ?_
              exact ih (i + 1) _ _ _ _ (by (try simp only [tI_add, tI_sub, tI_mul, tI_neg, Int32.reduceToInt]); omega) (by omega) (by rw [gBest_t (by rw [← hg, ← hm, hqi]; exact (fun h => h.elim c93 (fun h => h.elim c100 (fun h => c107 h.1))))]; rw [← hm, hqi])
            · refine r_iload dX3_bestHouse_110 rfl ?_
              refine r_iload dX3_bestHouse_112 rfl ?_
              refine r_icmp_lt 120 dX3_bestHouse_114 rfl (fun c114 => ?_) (fun c114 => ?_)
              · refine r_iload dX3_bestHouse_120 rfl ?_
                refine r_istore dX3_bestHouse_122 (Nat.le_of_ble_eq_true rfl) ?_
                refine r_iload dX3_bestHouse_124 rfl ?_
                refine r_istore dX3_bestHouse_126 (Nat.le_of_ble_eq_true rfl) ?_
                refine r_iload dX3_bestHouse_128 rfl ?_
                refine r_istore dX3_bestHouse_130 (Nat.le_of_ble_eq_true rfl) ?_
                refine r_inc 1 dX3_bestHouse_132 rfl rfl (Nat.le_of_ble_eq_true rfl) ?_
                refine r_goto 44 dX3_bestHouse_135 rfl ?_
                refine V_loc (L' := [(7, .int (q + 1)), (6, .int (iabs (q - gSl (S 0) (tn x) 1))), (5, .int (m)), (4, .int (q)), (0, .ref (A 7)), (1, .int x), (2, .int y), (3, .int z)]) ⟨rfl, rfl, rfl, rfl, rfl, rfl, rfl, rfl, trivial⟩ ?_
                exact ih (i + 1) _ _ _ _ (by (try simp only [tI_add, tI_sub, tI_mul, tI_neg, Int32.reduceToInt]); omega) (by omega) (by rw [gBest_t (by rw [← hg, ← hm, hqi]; exact (fun h => h.elim c93 (fun h => h.elim c100 (fun h => (Int32.not_le.mpr c114) h.2))))]; rw [← hm, hqi])
              · refine r_goto 132 dX3_bestHouse_117 rfl ?_
                refine r_inc 1 dX3_bestHouse_132 rfl rfl (Nat.le_of_ble_eq_true rfl) ?_
                refine r_goto 44 dX3_bestHouse_135 rfl ?_
                refine V_loc (L' := [(7, .int (q + 1)), (6, .int (c)), (5, .int (b)), (4, .int (a)), (0, .ref (A 7)), (1, .int x), (2, .int y), (3, .int z)]) ⟨rfl, rfl, rfl, rfl, rfl, rfl, rfl, rfl, trivial⟩ ?_
                exact ih (i + 1) _ _ _ _ (by (try simp only [tI_add, tI_sub, tI_mul, tI_neg, Int32.reduceToInt]); omega) (by omega) (by rw [gBest_k (by rw [← hg, ← hm, hqi]; exact Or.inr (Or.inr ⟨c107, Int32.not_lt.mp c114⟩))]; exact hg)
      refine r_iload dX3_bestHouse_44 rfl ?_
      refine r_bipush (v := 20) dX3_bestHouse_46 rfl ?_
      refine r_icmp_ge 138 dX3_bestHouse_48 rfl (fun c48 => absurd c48 (by intro hq; simp only [i32_eq, Int32.lt_iff_toInt_lt, Int32.le_iff_toInt_le, tI_add, tI_sub, tI_mul, tI_neg, Int32.reduceToInt] at hq; omega)) (fun c48 => ?_)
      first | refine r_aload_n dX3_bestHouse_51 rfl ?_ | refine r_aload_nq dX3_bestHouse_51 rfl ?_ | refine r_aload_nN dX3_bestHouse_51 rfl ?_
      refine r_iload dX3_bestHouse_52 rfl ?_
      refine r_invV dX3_bestHouse_54 (sp_X3_mood hi i hq (by omega)) rfl mo_X3_mood (Or.inl (m_o hi)) rfl (lkA q1965) (lkA q1967) (lkA qs33) rfl (lkA q82) mp_X3_mood (Nat.le_of_ble_eq_true rfl) (Nat.le_of_ble_eq_true rfl) (Nat.le_of_ble_eq_true rfl) (kr_e ?_) kx_e
      refine r_bipush (v := 7) dX3_bestHouse_57 rfl ?_
      refine r_icmp_lt 66 dX3_bestHouse_59 rfl (fun c59 => ?_) (fun c59 => ?_)
      · first | refine r_aload_n dX3_bestHouse_66 rfl ?_ | refine r_aload_nq dX3_bestHouse_66 rfl ?_ | refine r_aload_nN dX3_bestHouse_66 rfl ?_
        refine r_iload_n dX3_bestHouse_67 rfl ?_
        refine r_iload dX3_bestHouse_68 rfl ?_
        refine r_iload_n dX3_bestHouse_70 rfl ?_
        refine r_iload_n dX3_bestHouse_71 rfl ?_
        refine r_invV dX3_bestHouse_72 (sp_X3_wants hi (tn x) i (tn y) hS.2.1 hq hB.2.1 hS.2.2.1 (by omega) hB.2.2) rfl mo_X3_wants (Or.inl (m_o hi)) rfl (lkA q2074) (lkA q2076) (lkA qs47) rfl (lkA q82) mp_X3_wants (Nat.le_of_ble_eq_true rfl) (Nat.le_of_ble_eq_true rfl) (Nat.le_of_ble_eq_true rfl) (kr_e ?_) kx_e
        exact key _ (if_neg (Int32.not_le.mpr c59)).symm
      · refine r_iconst (v := 0) dX3_bestHouse_62 rfl ?_
        refine r_goto 75 dX3_bestHouse_63 rfl ?_
        exact key _ (if_pos (Int32.not_lt.mp c59)).symm
  exact loop 20 0 0 (-15) 0 0 rfl rfl rfl

set_option maxHeartbeats 4000000 in
set_option maxRecDepth 100000 in
theorem sp_X3_bestHouse {G : GG} {A : Nat → Nat} {S : Nat → Nat → Int32} {h : HP} (hi : inj 8 mdom A) {D : Int} (hI : Inv D (S 0)) {x y z : Int32} : Ct G 4 0 M_X3_bestHouse [.ref (A 7), .int x, .int y, .int z] (ov (mdH A S) h) (eQ (some (.int (oBest (S 0) x y z))) (ov (mdH A S) h)) := by
  refine ct_intro my_X3_bestHouse (Nat.le_of_ble_eq_true rfl) ?_
  first | refine r_aload_n dX3_bestHouse_0 rfl ?_ | refine r_aload_nq dX3_bestHouse_0 rfl ?_ | refine r_aload_nN dX3_bestHouse_0 rfl ?_
  refine r_iload_n dX3_bestHouse_1 rfl ?_
  refine r_invV dX3_bestHouse_2 (sp_X3_isSeller hi) rfl mo_X3_isSeller (Or.inl (m_o hi)) rfl (lkA q1992) (lkA q1994) (lkA qs37) rfl (lkA q82) mp_X3_isSeller (Nat.le_of_ble_eq_true rfl) (Nat.le_of_ble_eq_true rfl) (Nat.le_of_ble_eq_true rfl) (kr_e ?_) kx_e
  refine r_if_eq 15 dX3_bestHouse_5 rfl (fun c5 => ?_) (fun c5 => ?_)
  · refine r_bipush (v := (-11)) dX3_bestHouse_15 rfl ?_
    exact r_ireturn dX3_bestHouse_17 rfl (by first | rfl | exact bi_nar) (by refine ⟨?_, rfl⟩; (try simp only [bi_0, Bool.not_eq_false, s10, ss0, ← Int32.not_lt, Classical.not_not] at c5); simp only [oBest, ← Int32.not_lt, c5, if_true, if_false, eq_self, Bool.false_eq_true, not_true_eq_false, not_false_eq_true, true_and, and_true, false_and, and_false, decide_true, decide_false, Bool.not_true, Bool.not_false, Bool.true_and, Bool.false_and]; try rfl)
  · have hS := isS_of hI c5
    refine r_iload_n dX3_bestHouse_8 rfl ?_
    refine r_invS dX3_bestHouse_9 (sp_X3_isBristle ) rfl mo_X3_isBristle (lkA q1977) (lkA q1978) (lkA q82) mp_X3_isBristle (Nat.le_of_ble_eq_true rfl) (Nat.le_of_ble_eq_true rfl) (Nat.le_of_ble_eq_true rfl) (kr_e ?_) kx_e
    refine r_if_ne 18 dX3_bestHouse_12 rfl (fun c12 => ?_) (fun c12 => ?_)
    · have hB := isB_of c12
      refine r_iload_n dX3_bestHouse_18 rfl ?_
      refine r_iconst (v := 1) dX3_bestHouse_19 rfl ?_
      refine r_bipush (v := 20) dX3_bestHouse_20 rfl ?_
      refine r_invS dX3_bestHouse_22 (sp_X3_in ) rfl mo_X3_in (lkA q1947) (lkA q1948) (lkA q82) mp_X3_in (Nat.le_of_ble_eq_true rfl) (Nat.le_of_ble_eq_true rfl) (Nat.le_of_ble_eq_true rfl) (kr_e ?_) kx_e
      refine r_if_ne 31 dX3_bestHouse_25 rfl (fun c25 => ?_) (fun c25 => ?_)
      · refine r_bipush (v := (-15)) dX3_bestHouse_31 rfl ?_
        refine r_istore dX3_bestHouse_33 (Nat.le_of_ble_eq_true rfl) ?_
        refine r_iconst (v := 0) dX3_bestHouse_35 rfl ?_
        refine r_istore dX3_bestHouse_36 (Nat.le_of_ble_eq_true rfl) ?_
        refine r_iconst (v := 0) dX3_bestHouse_38 rfl ?_
        refine r_istore dX3_bestHouse_39 (Nat.le_of_ble_eq_true rfl) ?_
        refine r_iconst (v := 0) dX3_bestHouse_41 rfl ?_
        refine r_istore dX3_bestHouse_42 (Nat.le_of_ble_eq_true rfl) ?_
        have hv : oBest (S 0) x y z = (gBest (S 0) (tn x) (tn y) z 20).1 := (by (try simp only [bi_0, Bool.not_eq_false, s10, ss0, ← Int32.not_lt, Classical.not_not] at c5); (try simp only [bi_0, Bool.not_eq_false, s10, ss0, ← Int32.not_lt, Classical.not_not] at c12); (try simp only [bi_0, Bool.not_eq_false, s10, ss0, ← Int32.not_lt, Classical.not_not] at c25); simp only [oBest, isP, ← Int32.not_lt, c5, c12, c25, if_true, if_false, eq_self, Bool.false_eq_true, not_true_eq_false, not_false_eq_true, true_and, and_true, false_and, and_false, decide_true, decide_false, Bool.not_true, Bool.not_false, Bool.true_and, Bool.false_and]; try rfl)
        rw [hv]
        refine V_loc (L' := [(7, .int (0)), (6, .int (0)), (5, .int (0)), (4, .int (-15)), (0, .ref (A 7)), (1, .int x), (2, .int y), (3, .int z)]) ⟨rfl, rfl, rfl, rfl, rfl, rfl, rfl, rfl, trivial⟩ ?_
        exact best_2 hi hS hB _ rfl
      · refine r_bipush (v := (-12)) dX3_bestHouse_28 rfl ?_
        exact r_ireturn dX3_bestHouse_30 rfl (by first | rfl | exact bi_nar) (by refine ⟨?_, rfl⟩; (try simp only [bi_0, Bool.not_eq_false, s10, ss0, ← Int32.not_lt, Classical.not_not] at c5); (try simp only [bi_0, Bool.not_eq_false, s10, ss0, ← Int32.not_lt, Classical.not_not] at c12); (try simp only [bi_0, Bool.not_eq_false, s10, ss0, ← Int32.not_lt, Classical.not_not] at c25); simp only [oBest, isP, ← Int32.not_lt, c5, c12, c25, if_true, if_false, eq_self, Bool.false_eq_true, not_true_eq_false, not_false_eq_true, true_and, and_true, false_and, and_false, decide_true, decide_false, Bool.not_true, Bool.not_false, Bool.true_and, Bool.false_and]; try rfl)
    · refine r_bipush (v := (-11)) dX3_bestHouse_15 rfl ?_
      exact r_ireturn dX3_bestHouse_17 rfl (by first | rfl | exact bi_nar) (by refine ⟨?_, rfl⟩; (try simp only [bi_0, Bool.not_eq_false, s10, ss0, ← Int32.not_lt, Classical.not_not] at c5); (try simp only [bi_0, Bool.not_eq_false, s10, ss0, ← Int32.not_lt, Classical.not_not] at c12); simp only [oBest, ← Int32.not_lt, c5, c12, if_true, if_false, eq_self, Bool.false_eq_true, not_true_eq_false, not_false_eq_true, true_and, and_true, false_and, and_false, decide_true, decide_false, Bool.not_true, Bool.not_false, Bool.true_and, Bool.false_and]; try rfl)

theorem mres_K {S : Nat → Nat → Int32} {a : Int32} {w : Nat → Int32} : mres S (oK a w) = (0, ss (sa S 0 w) 8 a) := rfl
def gDay0 (w : Nat → Int32) : Nat → Int32 := upd (upd w 0 (w 0 + 1)) 1 0
set_option maxHeartbeats 4000000 in
set_option maxRecDepth 100000 in
theorem passes_2 {G : GG} {A : Nat → Nat} {S : Nat → Nat → Int32} {h : HP} (hi : inj 8 mdom A) (w w20 : Nat → Int32) (h20 : w20 = gPassN w 20) : V G 2 M_X3_passes 19 [(1, .int (0)), (0, .ref (A 7))] [] (ov (mdH A (sa S 0 w)) h) 0 (eQ (some (.int 0)) (ov (mdH A (ss (sa S 0 w20) 8 (w20 0))) h)) := by
  have loop : ∀ (n i : Nat) (q : Int32), q.toInt = (i : Int) → i + n = 20 → V G 2 M_X3_passes 19 [(1, .int (q)), (0, .ref (A 7))] [] (ov (mdH A (sa S 0 (gPassN w i))) h) 0 (eQ (some (.int 0)) (ov (mdH A (ss (sa S 0 w20) 8 (w20 0))) h)) := by
    intro n
    induction n with
    | zero =>
      intro i q hx hn
      have hN : i = 20 := by omega
      subst hN
      rw [← h20]
      refine r_iload_n dX3_passes_19 rfl ?_
      refine r_bipush (v := 20) dX3_passes_20 rfl ?_
      refine r_icmp_ge 100 dX3_passes_22 rfl (fun c22 => ?_) (fun c22 => absurd c22 (by intro hq; simp only [i32_eq, Int32.lt_iff_toInt_lt, Int32.le_iff_toInt_le, tI_add, tI_sub, tI_mul, tI_neg, Int32.reduceToInt] at hq; omega))
      first | refine r_aload_n dX3_passes_100 rfl ?_ | refine r_aload_nq dX3_passes_100 rfl ?_ | refine r_aload_nN dX3_passes_100 rfl ?_
      first | refine r_aload_n dX3_passes_101 rfl ?_ | refine r_aload_nq dX3_passes_101 rfl ?_ | refine r_aload_nN dX3_passes_101 rfl ?_
      refine r_getfield 3 0 dX3_passes_102 rfl (Nat.le_of_ble_eq_true rfl) (lkA q1890) (Or.inl rfl) (Or.inl (m_o hi)) (by rfl) ?_
      refine r_iconst (v := 0) dX3_passes_105 rfl ?_
      refine r_iaload (0) dX3_passes_106 (by first | exact Or.inl (m_a0 hi) | exact Or.inl (m_a1 hi) | exact Or.inl (m_a2 hi) | exact Or.inl (m_a3 hi) | exact Or.inl (m_a4 hi) | exact Or.inl (m_a5 hi) | exact Or.inl (m_a6 hi)) rfl (Nat.le_of_ble_eq_true rfl) rfl ?_
      simp only [sa_s]
      refine r_invV dX3_passes_107 (sp_X3_does hi) rfl mo_X3_does (Or.inl (m_o hi)) rfl (lkA q2004) (lkA q2006) (lkA qs40) rfl (lkA q82) mp_X3_does (Nat.le_of_ble_eq_true rfl) (Nat.le_of_ble_eq_true rfl) (Nat.le_of_ble_eq_true rfl) (kr_e ?_) kx_e
      exact r_ireturn dX3_passes_110 rfl (by first | rfl | exact bi_nar) (by first | exact ⟨rfl, rfl⟩ | rfl)
    | succ n ih =>
      intro i q hx hn
      have e1 : gPassN w (i + 1) = gPass1 (gPassN w i) i := rfl
      generalize hw : gPassN w i = v at e1
      have k94 : ∀ (f : Nat → Int32) (y : Int32), f = gPass1 v i → V G 2 M_X3_passes 94 [(2, .int y), (1, .int q), (0, .ref (A 7))] [] (ov (mdH A (sa S 0 f)) h) 0 (eQ (some (.int 0)) (ov (mdH A (ss (sa S 0 w20) 8 (w20 0))) h)) := by
        intro f y hf
        rw [hf, ← e1]
        refine r_inc 1 dX3_passes_94 rfl rfl (Nat.le_of_ble_eq_true rfl) ?_
        refine r_goto 19 dX3_passes_97 rfl ?_
        refine V_loc (L' := [(1, .int (q + 1)), (0, .ref (A 7))]) ⟨rfl, rfl, trivial⟩ ?_
        exact ih (i + 1) _ (by (try simp only [tI_add, tI_sub, tI_mul, tI_neg, Int32.reduceToInt]); omega) (by omega)
      have k79 : ∀ (f : Nat → Int32) (y : Int32), (if gTm f i < 5 then gCalm f i 1 else f) = gPass1 v i → V G 2 M_X3_passes 79 [(2, .int y), (1, .int q), (0, .ref (A 7))] [] (ov (mdH A (sa S 0 f)) h) 0 (eQ (some (.int 0)) (ov (mdH A (ss (sa S 0 w20) 8 (w20 0))) h)) := by
        intro f y hf
        first | refine r_aload_n dX3_passes_79 rfl ?_ | refine r_aload_nq dX3_passes_79 rfl ?_ | refine r_aload_nN dX3_passes_79 rfl ?_
        refine r_iload_n dX3_passes_80 rfl ?_
        refine r_invV dX3_passes_81 (sp_X3_temper hi i hx (by omega)) rfl mo_X3_temper (Or.inl (m_o hi)) rfl (lkA q2023) (lkA q2025) (lkA qs42) rfl (lkA q82) mp_X3_temper (Nat.le_of_ble_eq_true rfl) (Nat.le_of_ble_eq_true rfl) (Nat.le_of_ble_eq_true rfl) (kr_e ?_) kx_e
        refine r_iconst (v := 5) dX3_passes_84 rfl ?_
        refine r_icmp_ge 94 dX3_passes_85 rfl (fun c85 => ?_) (fun c85 => ?_)
        · exact k94 _ y (by rw [← hf]; exact (if_neg (Int32.not_lt.mpr c85)).symm)
        · first | refine r_aload_n dX3_passes_88 rfl ?_ | refine r_aload_nq dX3_passes_88 rfl ?_ | refine r_aload_nN dX3_passes_88 rfl ?_
          refine r_iload_n dX3_passes_89 rfl ?_
          refine r_iconst (v := 1) dX3_passes_90 rfl ?_
          refine r_invV dX3_passes_91 (sp_X3_calms hi i hx (by omega)) rfl mo_X3_calms (Or.inl (m_o hi)) rfl (lkA q2095) (lkA q2097) (lkA qs50) rfl (lkA q82) mp_X3_calms (Nat.le_of_ble_eq_true rfl) (Nat.le_of_ble_eq_true rfl) (Nat.le_of_ble_eq_true rfl) (kr_e ?_) kx_e
          rw [sa_sa]
          exact k94 _ y (by rw [← hf]; exact (if_pos (Int32.not_le.mp c85)).symm)
      have k53 : ∀ (f : Nat → Int32), f = (if 5 < gMd v i then upd v (53 + 4 * i + 1) (v (53 + 4 * i + 1) - 1) else v) → V G 2 M_X3_passes 53 [(2, .int (gMd v i)), (1, .int q), (0, .ref (A 7))] [] (ov (mdH A (sa S 0 f)) h) 0 (eQ (some (.int 0)) (ov (mdH A (ss (sa S 0 w20) 8 (w20 0))) h)) := by
        intro f hf
        refine r_iload_n dX3_passes_53 rfl ?_
        refine r_iconst (v := 0) dX3_passes_54 rfl ?_
        refine r_iconst (v := 4) dX3_passes_55 rfl ?_
        refine r_invS dX3_passes_56 (sp_X3_in ) rfl mo_X3_in (lkA q1947) (lkA q1948) (lkA q82) mp_X3_in (Nat.le_of_ble_eq_true rfl) (Nat.le_of_ble_eq_true rfl) (Nat.le_of_ble_eq_true rfl) (kr_e ?_) kx_e
        refine r_if_eq 79 dX3_passes_59 rfl (fun c59 => ?_) (fun c59 => ?_)
        · exact k79 _ _ (by subst hf; simp only [gPass1, bi_0.mp c59, Bool.false_eq_true, if_false])
        · first | refine r_aload_n dX3_passes_62 rfl ?_ | refine r_aload_nq dX3_passes_62 rfl ?_ | refine r_aload_nN dX3_passes_62 rfl ?_
          refine r_getfield 3 0 dX3_passes_63 rfl (Nat.le_of_ble_eq_true rfl) (lkA q1890) (Or.inl rfl) (Or.inl (m_o hi)) (by rfl) ?_
          refine r_bipush (v := 53) dX3_passes_66 rfl ?_
          refine r_iconst (v := 4) dX3_passes_68 rfl ?_
          refine r_iload_n dX3_passes_69 rfl ?_
          refine r_imul dX3_passes_70 ?_
          refine r_iadd dX3_passes_71 ?_
          refine r_iconst (v := 1) dX3_passes_72 rfl ?_
          refine r_iadd dX3_passes_73 ?_
          refine r_dup2 dX3_passes_74 rfl rfl ?_
          refine r_iaload (53 + 4 * i + 1) dX3_passes_75 (by first | exact Or.inl (m_a0 hi) | exact Or.inl (m_a1 hi) | exact Or.inl (m_a2 hi) | exact Or.inl (m_a3 hi) | exact Or.inl (m_a4 hi) | exact Or.inl (m_a5 hi) | exact Or.inl (m_a6 hi)) (by (try simp only [tI_add, tI_sub, tI_mul, tI_neg, Int32.reduceToInt]); omega) (by omega) rfl ?_
          refine r_iconst (v := 1) dX3_passes_76 rfl ?_
          refine r_iadd dX3_passes_77 ?_
          refine r_iastore (53 + 4 * i + 1) dX3_passes_78 (m_a0 hi) (by (try simp only [tI_add, tI_sub, tI_mul, tI_neg, Int32.reduceToInt]); omega) (by omega) ?_
          rw [m_w0 hi]
          rw [sa_sa, sa_s]
          exact k79 _ _ (by subst hf; simp only [gPass1, bi_n0.mp c59, if_true])
      refine r_iload_n dX3_passes_19 rfl ?_
      refine r_bipush (v := 20) dX3_passes_20 rfl ?_
      refine r_icmp_ge 100 dX3_passes_22 rfl (fun c22 => absurd c22 (by intro hq; simp only [i32_eq, Int32.lt_iff_toInt_lt, Int32.le_iff_toInt_le, tI_add, tI_sub, tI_mul, tI_neg, Int32.reduceToInt] at hq; omega)) (fun c22 => ?_)
      first | refine r_aload_n dX3_passes_25 rfl ?_ | refine r_aload_nq dX3_passes_25 rfl ?_ | refine r_aload_nN dX3_passes_25 rfl ?_
      refine r_iload_n dX3_passes_26 rfl ?_
      refine r_invV dX3_passes_27 (sp_X3_mood hi i hx (by omega)) rfl mo_X3_mood (Or.inl (m_o hi)) rfl (lkA q1965) (lkA q1967) (lkA qs33) rfl (lkA q82) mp_X3_mood (Nat.le_of_ble_eq_true rfl) (Nat.le_of_ble_eq_true rfl) (Nat.le_of_ble_eq_true rfl) (kr_e ?_) kx_e
      refine r_istore_n dX3_passes_30 (Nat.le_of_ble_eq_true rfl) ?_
      refine r_iload_n dX3_passes_31 rfl ?_
      refine r_iconst (v := 5) dX3_passes_32 rfl ?_
      refine r_icmp_le 53 dX3_passes_33 rfl (fun c33 => ?_) (fun c33 => ?_)
      · exact k53 _ (if_neg (Int32.not_lt.mpr c33)).symm
      · first | refine r_aload_n dX3_passes_36 rfl ?_ | refine r_aload_nq dX3_passes_36 rfl ?_ | refine r_aload_nN dX3_passes_36 rfl ?_
        refine r_getfield 3 0 dX3_passes_37 rfl (Nat.le_of_ble_eq_true rfl) (lkA q1890) (Or.inl rfl) (Or.inl (m_o hi)) (by rfl) ?_
        refine r_bipush (v := 53) dX3_passes_40 rfl ?_
        refine r_iconst (v := 4) dX3_passes_42 rfl ?_
        refine r_iload_n dX3_passes_43 rfl ?_
        refine r_imul dX3_passes_44 ?_
        refine r_iadd dX3_passes_45 ?_
        refine r_iconst (v := 1) dX3_passes_46 rfl ?_
        refine r_iadd dX3_passes_47 ?_
        refine r_dup2 dX3_passes_48 rfl rfl ?_
        refine r_iaload (53 + 4 * i + 1) dX3_passes_49 (by first | exact Or.inl (m_a0 hi) | exact Or.inl (m_a1 hi) | exact Or.inl (m_a2 hi) | exact Or.inl (m_a3 hi) | exact Or.inl (m_a4 hi) | exact Or.inl (m_a5 hi) | exact Or.inl (m_a6 hi)) (by (try simp only [tI_add, tI_sub, tI_mul, tI_neg, Int32.reduceToInt]); omega) (by omega) rfl ?_
        refine r_iconst (v := 1) dX3_passes_50 rfl ?_
        refine r_isub dX3_passes_51 ?_
        refine r_iastore (53 + 4 * i + 1) dX3_passes_52 (m_a0 hi) (by (try simp only [tI_add, tI_sub, tI_mul, tI_neg, Int32.reduceToInt]); omega) (by omega) ?_
        rw [m_w0 hi]
        rw [sa_sa, sa_s]
        exact k53 _ (if_pos (Int32.not_le.mp c33)).symm
  exact loop 20 0 0 rfl rfl

set_option maxHeartbeats 4000000 in
set_option maxRecDepth 100000 in
theorem sp_X3_passes {G : GG} {A : Nat → Nat} {S : Nat → Nat → Int32} {h : HP} (hi : inj 8 mdom A)  : Ct G 2 0 M_X3_passes [.ref (A 7)] (ov (mdH A S) h) (eQ (some (.int (mres S (oDay (S 0))).1)) (ov (mdH A (mres S (oDay (S 0))).2) h)) := by
  refine ct_intro my_X3_passes (Nat.le_of_ble_eq_true rfl) ?_
  first | refine r_aload_n dX3_passes_0 rfl ?_ | refine r_aload_nq dX3_passes_0 rfl ?_ | refine r_aload_nN dX3_passes_0 rfl ?_
  refine r_getfield 3 0 dX3_passes_1 rfl (Nat.le_of_ble_eq_true rfl) (lkA q1890) (Or.inl rfl) (Or.inl (m_o hi)) (by rfl) ?_
  refine r_iconst (v := 0) dX3_passes_4 rfl ?_
  refine r_dup2 dX3_passes_5 rfl rfl ?_
  refine r_iaload (0) dX3_passes_6 (by first | exact Or.inl (m_a0 hi) | exact Or.inl (m_a1 hi) | exact Or.inl (m_a2 hi) | exact Or.inl (m_a3 hi) | exact Or.inl (m_a4 hi) | exact Or.inl (m_a5 hi) | exact Or.inl (m_a6 hi)) rfl (Nat.le_of_ble_eq_true rfl) rfl ?_
  refine r_iconst (v := 1) dX3_passes_7 rfl ?_
  refine r_iadd dX3_passes_8 ?_
  refine r_iastore (0) dX3_passes_9 (m_a0 hi) rfl (Nat.le_of_ble_eq_true rfl) ?_
  rw [m_w0 hi]
  first | refine r_aload_n dX3_passes_10 rfl ?_ | refine r_aload_nq dX3_passes_10 rfl ?_ | refine r_aload_nN dX3_passes_10 rfl ?_
  refine r_getfield 3 0 dX3_passes_11 rfl (Nat.le_of_ble_eq_true rfl) (lkA q1890) (Or.inl rfl) (Or.inl (m_o hi)) (by rfl) ?_
  refine r_iconst (v := 1) dX3_passes_14 rfl ?_
  refine r_iconst (v := 0) dX3_passes_15 rfl ?_
  refine r_iastore (1) dX3_passes_16 (m_a0 hi) rfl (Nat.le_of_ble_eq_true rfl) ?_
  rw [m_w0 hi]
  refine r_iconst (v := 0) dX3_passes_17 rfl ?_
  refine r_istore_n dX3_passes_18 (Nat.le_of_ble_eq_true rfl) ?_
  simp only [sa_sa, sa_s]
  unfold oDay
  rw [mres_K]
  have hg : gDay (S 0) = gPassN (upd (upd (S 0) 0 (S 0 0 + 1)) 1 0) 20 := by unfold gDay; rfl
  generalize gDay (S 0) = w20 at hg ⊢
  exact passes_2 hi (upd (upd (S 0) 0 (S 0 0 + 1)) 1 0) w20 hg

