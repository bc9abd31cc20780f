set_option maxRecDepth 100000
/-- the reference's start -/
def Sm0 : Nat → Nat → Int32 := fun i => if i = 0 then wI 3 else fun _ => 0
def Am (f : Nat → Nat) (a : Nat) : Nat → Nat := fun i => if i = 7 then a else f i
def zm (n m : Nat) : Nat → Int32 := fun i => if i = 4 then 50 else if i = 5 then 120 else if 14 ≤ i ∧ i < 14 + n then 40 else if 53 ≤ i ∧ i < 53 + 4 * m ∧ (i - 53) % 4 = 0 then 5 else 0
theorem zm_1 {n : Nat} (hn : n < 3) : upd (zm n 0) (14 + n) 40 = zm (n + 1) 0 := by
  funext i
  unfold upd zm
  by_cases e : i = 14 + n
  · rw [if_pos e, if_neg (by omega), if_neg (by omega), if_pos (by omega)]
  · rw [if_neg e]
    by_cases e4 : i = 4
    · rw [if_pos e4, if_pos e4]
    · rw [if_neg e4, if_neg e4]
      by_cases e5 : i = 5
      · rw [if_pos e5, if_pos e5]
      · rw [if_neg e5, if_neg e5]
        by_cases e6 : 14 ≤ i ∧ i < 14 + n
        · rw [if_pos e6, if_pos (by omega)]
        · rw [if_neg e6, if_neg (show ¬ (14 ≤ i ∧ i < 14 + (n + 1)) by omega)]
theorem zm_2 {m : Nat} (hm : m < 20) : upd (zm 3 m) (53 + 4 * m) 5 = zm 3 (m + 1) := by
  funext i
  unfold upd zm
  by_cases e : i = 53 + 4 * m
  · rw [if_pos e, if_neg (by omega), if_neg (by omega), if_neg (by omega), if_pos (by omega)]
  · rw [if_neg e]
    by_cases e4 : i = 4
    · rw [if_pos e4, if_pos e4]
    · rw [if_neg e4, if_neg e4]
      by_cases e5 : i = 5
      · rw [if_pos e5, if_pos e5]
      · rw [if_neg e5, if_neg e5]
        by_cases e6 : 14 ≤ i ∧ i < 14 + 3
        · rw [if_pos e6, if_pos e6]
        · rw [if_neg e6, if_neg e6]
          by_cases e7 : 53 ≤ i ∧ i < 53 + 4 * m ∧ (i - 53) % 4 = 0
          · rw [if_pos e7, if_pos (by omega)]
          · rw [if_neg e7, if_neg (by omega)]
theorem zm_w : zm 3 20 = wI 3 := by
  funext i
  unfold zm wI
  by_cases e4 : i = 4
  · rw [if_pos e4, if_pos e4]
  · rw [if_neg e4, if_neg e4]
    by_cases e5 : i = 5
    · rw [if_pos e5, if_pos e5]; rfl
    · rw [if_neg e5, if_neg e5]
theorem zm_0 : upd (upd (fun _ => (0 : Int32)) 4 50) 5 120 = zm 0 0 := by
  funext i
  unfold upd zm
  by_cases e5 : i = 5
  · rw [if_pos e5, if_neg (by omega), if_pos e5]
  · rw [if_neg e5]
    by_cases e4 : i = 4
    · rw [if_pos e4, if_pos e4]
    · rw [if_neg e4, if_neg e4, if_neg e5, if_neg (by omega), if_neg (by omega)]
set_option maxHeartbeats 4000000 in
set_option maxRecDepth 100000 in
theorem lp_minit2 {G : GG} {H : HP} {a a0 : Nat} {v1 v2 v3 v4 v5 v6 v7 v8 v9 va vb vc vd ve vf : Value} (na0 : a0 ≠ a) (hO : H a = some (bO 3 [.ref a0, v1, v2, v3, v4, v5, v6, v7, v8, v9, va, vb, vc, vd, ve, vf])) {Q : Oc → HP → Prop} (kk : ∀ f, f = wI 3 → Q (.inl none) (hu H a0 (bI 0 413 f))) : ∀ (n i : Nat), i + n = 20 → V G 1 M_X3_init 105 [(1, .int (nI i)), (0, .ref a)] [] (hu H a0 (bI 0 413 (zm 3 i))) 0 Q := by
  intro n
  induction n with
  | zero =>
    intro i hin
    obtain rfl : i = 20 := by omega
    refine r_iload_n dX3_init_105 rfl ?_
    refine r_bipush (v := 20) dX3_init_106 rfl ?_
    refine r_icmp_ge 129 dX3_init_108 rfl (fun c108 => ?_) (fun c108 => absurd c108 (fun e => e (by rw [Int32.le_iff_toInt_le, nIn (by omega)]; have h9 : (20 : Int32).toInt = 20 := rfl; omega)))
    exact r_return dX3_init_129 rfl (kk _ zm_w)
  | succ n ih =>
    intro i hin
    have hi2 : i < 20 := by omega
    have hix := nIn (show i < 1000 by omega)
    refine r_iload_n dX3_init_105 rfl ?_
    refine r_bipush (v := 20) dX3_init_106 rfl ?_
    refine r_icmp_ge 129 dX3_init_108 rfl (fun c108 => absurd c108 (by rw [Int32.le_iff_toInt_le, nIn (by omega)]; have h9 : (20 : Int32).toInt = 20 := rfl; omega)) (fun c108 => ?_)
    first | refine r_aload_n dX3_init_111 rfl ?_ | refine r_aload_nq dX3_init_111 rfl ?_ | refine r_aload_nN dX3_init_111 rfl ?_
    refine r_getfield 3 0 dX3_init_112 rfl (Nat.le_of_ble_eq_true rfl) (lkA q1890) (Or.inl rfl) (Or.inl ((hu_n (Ne.symm na0)).trans hO)) (by rfl) ?_
    refine r_bipush (v := 53) dX3_init_115 rfl ?_
    refine r_iconst (v := 4) dX3_init_117 rfl ?_
    refine r_iload_n dX3_init_118 rfl ?_
    refine r_imul dX3_init_119 ?_
    refine r_iadd dX3_init_120 ?_
    refine r_iconst (v := 5) dX3_init_121 rfl ?_
    refine r_iastore (53 + 4 * i) dX3_init_122 hu_s (by rw [tI_add, tI_mul, hix]; have h9 : (53 : Int32).toInt = 53 := rfl; have h8 : (4 : Int32).toInt = 4 := rfl; rw [h9, h8, if_pos (by omega), if_pos (by omega)]; omega) (by omega) ?_
    rw [hu_hu, zm_2 hi2]
    refine r_inc 1 dX3_init_123 rfl rfl (Nat.le_of_ble_eq_true rfl) ?_
    refine r_goto 105 dX3_init_126 rfl ?_
    refine V_loc (L' := [(1, .int (nI i + 1)), (0, .ref a)]) ⟨rfl, rfl, trivial⟩ ?_
    rw [← nI_succ]
    exact ih (i + 1) (by omega)

set_option maxHeartbeats 4000000 in
set_option maxRecDepth 100000 in
theorem lp_minit1 {G : GG} {H : HP} {a a0 : Nat} {v1 v2 v3 v4 v5 v6 v7 v8 v9 va vb vc vd ve vf : Value} (na0 : a0 ≠ a) (hO : H a = some (bO 3 [.ref a0, v1, v2, v3, v4, v5, v6, v7, v8, v9, va, vb, vc, vd, ve, vf])) {Q : Oc → HP → Prop} (kk : ∀ f, f = wI 3 → Q (.inl none) (hu H a0 (bI 0 413 f))) : ∀ (n i : Nat), i + n = 3 → V G 1 M_X3_init 81 [(1, .int (nI i)), (0, .ref a)] [] (hu H a0 (bI 0 413 (zm i 0))) 0 Q := by
  intro n
  induction n with
  | zero =>
    intro i hin
    obtain rfl : i = 3 := by omega
    refine r_iload_n dX3_init_81 rfl ?_
    refine r_iconst (v := 3) dX3_init_82 rfl ?_
    refine r_icmp_ge 103 dX3_init_83 rfl (fun c83 => ?_) (fun c83 => absurd c83 (fun e => e (by rw [Int32.le_iff_toInt_le, nIn (by omega)]; have h9 : (3 : Int32).toInt = 3 := rfl; omega)))
    refine r_iconst (v := 0) dX3_init_103 rfl ?_
    refine r_istore_n dX3_init_104 (Nat.le_of_ble_eq_true rfl) ?_
    refine V_loc (L' := [(1, .int (nI 0)), (0, .ref a)]) ⟨rfl, rfl, trivial⟩ ?_
    exact lp_minit2 na0 hO kk 20 0 (by omega)
  | succ n ih =>
    intro i hin
    have hi2 : i < 3 := by omega
    have hix := nIn (show i < 1000 by omega)
    refine r_iload_n dX3_init_81 rfl ?_
    refine r_iconst (v := 3) dX3_init_82 rfl ?_
    refine r_icmp_ge 103 dX3_init_83 rfl (fun c83 => absurd c83 (by rw [Int32.le_iff_toInt_le, nIn (by omega)]; have h9 : (3 : Int32).toInt = 3 := rfl; omega)) (fun c83 => ?_)
    first | refine r_aload_n dX3_init_86 rfl ?_ | refine r_aload_nq dX3_init_86 rfl ?_ | refine r_aload_nN dX3_init_86 rfl ?_
    refine r_getfield 3 0 dX3_init_87 rfl (Nat.le_of_ble_eq_true rfl) (lkA q1890) (Or.inl rfl) (Or.inl ((hu_n (Ne.symm na0)).trans hO)) (by rfl) ?_
    refine r_bipush (v := 14) dX3_init_90 rfl ?_
    refine r_iload_n dX3_init_92 rfl ?_
    refine r_iadd dX3_init_93 ?_
    refine r_bipush (v := 40) dX3_init_94 rfl ?_
    refine r_iastore (14 + i) dX3_init_96 hu_s (by rw [tI_add, hix]; have h9 : (14 : Int32).toInt = 14 := rfl; rw [h9, if_pos (by omega)]; omega) (by omega) ?_
    rw [hu_hu, zm_1 hi2]
    refine r_inc 1 dX3_init_97 rfl rfl (Nat.le_of_ble_eq_true rfl) ?_
    refine r_goto 81 dX3_init_100 rfl ?_
    refine V_loc (L' := [(1, .int (nI i + 1)), (0, .ref a)]) ⟨rfl, rfl, trivial⟩ ?_
    rw [← nI_succ]
    exact ih (i + 1) (by omega)

set_option maxHeartbeats 4000000 in
set_option maxRecDepth 100000 in
theorem sp_X3_init {G : GG} {h : HP} {a : Nat} (hA : h a = some (bO 3 [.null, .null, .null, .int 0, .null, .int 0, .null, .int 0, .null, .int 0, .int 0, .int 0, .null, .int 0, .int 0, .int 0])) : Ct G 1 4700 M_X3_init [.ref a] h (rQ (fun v h' => v = none ∧ ∃ A : Nat → Nat, A 7 = a ∧ inj 8 mdom A ∧ (∀ k, k < 7 → h (A k) = none) ∧ (∀ k, k < 8 → h' (A k) = some (mcell A Sm0 k)) ∧ ∀ q b, q ≠ a → h q = some b → h' q = some b)) := by
  refine ct_intro my_X3_init (Nat.le_of_ble_eq_true rfl) ?_
  first | refine r_aload_n dX3_init_0 rfl ?_ | refine r_aload_nq dX3_init_0 rfl ?_ | refine r_aload_nN dX3_init_0 rfl ?_
  refine r_objinit (w1 := .tt) dX3_init_1 (lkA q1889) (lkA q112) (lkA q113) (Nat.le_of_ble_eq_true rfl) (Nat.le_of_ble_eq_true rfl) ?_
  first | refine r_aload_n dX3_init_4 rfl ?_ | refine r_aload_nq dX3_init_4 rfl ?_ | refine r_aload_nN dX3_init_4 rfl ?_
  refine r_sipush (v := 413) dX3_init_5 rfl ?_
  refine r_newaI 413 dX3_init_8 (lkA q205) rfl (Nat.le_of_ble_eq_true rfl) (Nat.le_of_ble_eq_true rfl) (fun a0 ha0 => ?_)
  refine r_putF 3 0 dX3_init_10 rfl (Nat.le_of_ble_eq_true rfl) (lkA q1890) rfl rfl rfl (hu_o ha0 hA) (by dsimp only [List.set]) (Nat.le_of_ble_eq_true rfl) rfl rfl (by first | exact hu_hu | exact rfl) ?_
  refine V_gen (fun H1 hH1 => ?_)
  obtain ⟨hO1, hq0, fr1⟩ := st1 hH1 ha0 hA
  have na0 : a0 ≠ a := Ne.symm (ne_o ha0 hA)
  first | refine r_aload_n dX3_init_13 rfl ?_ | refine r_aload_nq dX3_init_13 rfl ?_ | refine r_aload_nN dX3_init_13 rfl ?_
  refine r_sipush (v := 413) dX3_init_14 rfl ?_
  refine r_newaI 413 dX3_init_17 (lkA q205) rfl (Nat.le_of_ble_eq_true rfl) (Nat.le_of_ble_eq_true rfl) (fun a1 ha1 => ?_)
  refine r_putF 3 1 dX3_init_19 rfl (Nat.le_of_ble_eq_true rfl) (lkA q1891) rfl rfl rfl (hu_o ha1 hO1) (by dsimp only [List.set]) (Nat.le_of_ble_eq_true rfl) rfl rfl (by first | exact hu_hu | exact rfl) ?_
  refine V_gen (fun H2 hH2 => ?_)
  obtain ⟨hO2, hq1, fr2⟩ := st1 hH2 ha1 hO1
  have na1 : a1 ≠ a := Ne.symm (ne_o ha1 hO1)
  have n0_1 : a0 ≠ a1 := ne_o ha1 hq0
  have hq0 := fr2 _ _ na0 hq0
  first | refine r_aload_n dX3_init_22 rfl ?_ | refine r_aload_nq dX3_init_22 rfl ?_ | refine r_aload_nN dX3_init_22 rfl ?_
  refine r_sipush (v := 3304) dX3_init_23 rfl ?_
  refine r_newaI 3304 dX3_init_26 (lkA q205) rfl (Nat.le_of_ble_eq_true rfl) (Nat.le_of_ble_eq_true rfl) (fun a2 ha2 => ?_)
  refine r_putF 3 2 dX3_init_28 rfl (Nat.le_of_ble_eq_true rfl) (lkA q1892) rfl rfl rfl (hu_o ha2 hO2) (by dsimp only [List.set]) (Nat.le_of_ble_eq_true rfl) rfl rfl (by first | exact hu_hu | exact rfl) ?_
  refine V_gen (fun H3 hH3 => ?_)
  obtain ⟨hO3, hq2, fr3⟩ := st1 hH3 ha2 hO2
  have na2 : a2 ≠ a := Ne.symm (ne_o ha2 hO2)
  have n0_2 : a0 ≠ a2 := ne_o ha2 hq0
  have n1_2 : a1 ≠ a2 := ne_o ha2 hq1
  have hq0 := fr3 _ _ na0 hq0
  have hq1 := fr3 _ _ na1 hq1
  first | refine r_aload_n dX3_init_31 rfl ?_ | refine r_aload_nq dX3_init_31 rfl ?_ | refine r_aload_nN dX3_init_31 rfl ?_
  refine r_sipush (v := 413) dX3_init_32 rfl ?_
  refine r_newaI 413 dX3_init_35 (lkA q205) rfl (Nat.le_of_ble_eq_true rfl) (Nat.le_of_ble_eq_true rfl) (fun a3 ha3 => ?_)
  refine r_putF 3 4 dX3_init_37 rfl (Nat.le_of_ble_eq_true rfl) (lkA q1894) rfl rfl rfl (hu_o ha3 hO3) (by dsimp only [List.set]) (Nat.le_of_ble_eq_true rfl) rfl rfl (by first | exact hu_hu | exact rfl) ?_
  refine V_gen (fun H4 hH4 => ?_)
  obtain ⟨hO4, hq3, fr4⟩ := st1 hH4 ha3 hO3
  have na3 : a3 ≠ a := Ne.symm (ne_o ha3 hO3)
  have n0_3 : a0 ≠ a3 := ne_o ha3 hq0
  have n1_3 : a1 ≠ a3 := ne_o ha3 hq1
  have n2_3 : a2 ≠ a3 := ne_o ha3 hq2
  have hq0 := fr4 _ _ na0 hq0
  have hq1 := fr4 _ _ na1 hq1
  have hq2 := fr4 _ _ na2 hq2
  first | refine r_aload_n dX3_init_40 rfl ?_ | refine r_aload_nq dX3_init_40 rfl ?_ | refine r_aload_nN dX3_init_40 rfl ?_
  refine r_bipush (v := 60) dX3_init_41 rfl ?_
  refine r_newaI 60 dX3_init_43 (lkA q205) rfl (Nat.le_of_ble_eq_true rfl) (Nat.le_of_ble_eq_true rfl) (fun a4 ha4 => ?_)
  refine r_putF 3 6 dX3_init_45 rfl (Nat.le_of_ble_eq_true rfl) (lkA q1896) rfl rfl rfl (hu_o ha4 hO4) (by dsimp only [List.set]) (Nat.le_of_ble_eq_true rfl) rfl rfl (by first | exact hu_hu | exact rfl) ?_
  refine V_gen (fun H5 hH5 => ?_)
  obtain ⟨hO5, hq4, fr5⟩ := st1 hH5 ha4 hO4
  have na4 : a4 ≠ a := Ne.symm (ne_o ha4 hO4)
  have n0_4 : a0 ≠ a4 := ne_o ha4 hq0
  have n1_4 : a1 ≠ a4 := ne_o ha4 hq1
  have n2_4 : a2 ≠ a4 := ne_o ha4 hq2
  have n3_4 : a3 ≠ a4 := ne_o ha4 hq3
  have hq0 := fr5 _ _ na0 hq0
  have hq1 := fr5 _ _ na1 hq1
  have hq2 := fr5 _ _ na2 hq2
  have hq3 := fr5 _ _ na3 hq3
  first | refine r_aload_n dX3_init_48 rfl ?_ | refine r_aload_nq dX3_init_48 rfl ?_ | refine r_aload_nN dX3_init_48 rfl ?_
  refine r_bipush (v := 60) dX3_init_49 rfl ?_
  refine r_newaI 60 dX3_init_51 (lkA q205) rfl (Nat.le_of_ble_eq_true rfl) (Nat.le_of_ble_eq_true rfl) (fun a5 ha5 => ?_)
  refine r_putF 3 8 dX3_init_53 rfl (Nat.le_of_ble_eq_true rfl) (lkA q1898) rfl rfl rfl (hu_o ha5 hO5) (by dsimp only [List.set]) (Nat.le_of_ble_eq_true rfl) rfl rfl (by first | exact hu_hu | exact rfl) ?_
  refine V_gen (fun H6 hH6 => ?_)
  obtain ⟨hO6, hq5, fr6⟩ := st1 hH6 ha5 hO5
  have na5 : a5 ≠ a := Ne.symm (ne_o ha5 hO5)
  have n0_5 : a0 ≠ a5 := ne_o ha5 hq0
  have n1_5 : a1 ≠ a5 := ne_o ha5 hq1
  have n2_5 : a2 ≠ a5 := ne_o ha5 hq2
  have n3_5 : a3 ≠ a5 := ne_o ha5 hq3
  have n4_5 : a4 ≠ a5 := ne_o ha5 hq4
  have hq0 := fr6 _ _ na0 hq0
  have hq1 := fr6 _ _ na1 hq1
  have hq2 := fr6 _ _ na2 hq2
  have hq3 := fr6 _ _ na3 hq3
  have hq4 := fr6 _ _ na4 hq4
  first | refine r_aload_n dX3_init_56 rfl ?_ | refine r_aload_nq dX3_init_56 rfl ?_ | refine r_aload_nN dX3_init_56 rfl ?_
  refine r_iconst (v := 3) dX3_init_57 rfl ?_
  refine r_newaI 3 dX3_init_58 (lkA q205) rfl (Nat.le_of_ble_eq_true rfl) (Nat.le_of_ble_eq_true rfl) (fun a6 ha6 => ?_)
  refine r_putF 3 12 dX3_init_60 rfl (Nat.le_of_ble_eq_true rfl) (lkA q1902) rfl rfl rfl (hu_o ha6 hO6) (by dsimp only [List.set]) (Nat.le_of_ble_eq_true rfl) rfl rfl (by first | exact hu_hu | exact rfl) ?_
  refine V_gen (fun H7 hH7 => ?_)
  obtain ⟨hO7, hq6, fr7⟩ := st1 hH7 ha6 hO6
  have na6 : a6 ≠ a := Ne.symm (ne_o ha6 hO6)
  have n0_6 : a0 ≠ a6 := ne_o ha6 hq0
  have n1_6 : a1 ≠ a6 := ne_o ha6 hq1
  have n2_6 : a2 ≠ a6 := ne_o ha6 hq2
  have n3_6 : a3 ≠ a6 := ne_o ha6 hq3
  have n4_6 : a4 ≠ a6 := ne_o ha6 hq4
  have n5_6 : a5 ≠ a6 := ne_o ha6 hq5
  have hq0 := fr7 _ _ na0 hq0
  have hq1 := fr7 _ _ na1 hq1
  have hq2 := fr7 _ _ na2 hq2
  have hq3 := fr7 _ _ na3 hq3
  have hq4 := fr7 _ _ na4 hq4
  have hq5 := fr7 _ _ na5 hq5
  have frA : ∀ q b, q ≠ a → h q = some b → H7 q = some b := fun q b hq hb => fr7 _ _ hq (fr6 _ _ hq (fr5 _ _ hq (fr4 _ _ hq (fr3 _ _ hq (fr2 _ _ hq (fr1 _ _ hq hb))))))
  have pn_0 : h a0 = none := ha0
  have pn_1 : h a1 = none := by
    cases e : h a1 with
    | none => rfl
    | some b =>
      have hb := e
      have := (fr1 _ _ na1 hb)
      rw [ha1] at this
      cases this
  have pn_2 : h a2 = none := by
    cases e : h a2 with
    | none => rfl
    | some b =>
      have hb := e
      have := (fr2 _ _ na2 (fr1 _ _ na2 hb))
      rw [ha2] at this
      cases this
  have pn_3 : h a3 = none := by
    cases e : h a3 with
    | none => rfl
    | some b =>
      have hb := e
      have := (fr3 _ _ na3 (fr2 _ _ na3 (fr1 _ _ na3 hb)))
      rw [ha3] at this
      cases this
  have pn_4 : h a4 = none := by
    cases e : h a4 with
    | none => rfl
    | some b =>
      have hb := e
      have := (fr4 _ _ na4 (fr3 _ _ na4 (fr2 _ _ na4 (fr1 _ _ na4 hb))))
      rw [ha4] at this
      cases this
  have pn_5 : h a5 = none := by
    cases e : h a5 with
    | none => rfl
    | some b =>
      have hb := e
      have := (fr5 _ _ na5 (fr4 _ _ na5 (fr3 _ _ na5 (fr2 _ _ na5 (fr1 _ _ na5 hb)))))
      rw [ha5] at this
      cases this
  have pn_6 : h a6 = none := by
    cases e : h a6 with
    | none => rfl
    | some b =>
      have hb := e
      have := (fr6 _ _ na6 (fr5 _ _ na6 (fr4 _ _ na6 (fr3 _ _ na6 (fr2 _ _ na6 (fr1 _ _ na6 hb))))))
      rw [ha6] at this
      cases this
  first | refine r_aload_n dX3_init_63 rfl ?_ | refine r_aload_nq dX3_init_63 rfl ?_ | refine r_aload_nN dX3_init_63 rfl ?_
  refine r_getfield 3 0 dX3_init_64 rfl (Nat.le_of_ble_eq_true rfl) (lkA q1890) (Or.inl rfl) (Or.inl hO7) (by rfl) ?_
  refine r_iconst (v := 4) dX3_init_67 rfl ?_
  refine r_bipush (v := 50) dX3_init_68 rfl ?_
  refine r_iastore (4) dX3_init_70 hq0 rfl (Nat.le_of_ble_eq_true rfl) ?_
  first | refine r_aload_n dX3_init_71 rfl ?_ | refine r_aload_nq dX3_init_71 rfl ?_ | refine r_aload_nN dX3_init_71 rfl ?_
  refine r_getfield 3 0 dX3_init_72 rfl (Nat.le_of_ble_eq_true rfl) (lkA q1890) (Or.inl rfl) (Or.inl ((hu_n (Ne.symm na0)).trans hO7)) (by rfl) ?_
  refine r_iconst (v := 5) dX3_init_75 rfl ?_
  refine r_bipush (v := 120) dX3_init_76 rfl ?_
  refine r_iastore (5) dX3_init_78 hu_s rfl (Nat.le_of_ble_eq_true rfl) ?_
  rw [hu_hu, zm_0]
  refine r_iconst (v := 0) dX3_init_79 rfl ?_
  refine r_istore_n dX3_init_80 (Nat.le_of_ble_eq_true rfl) ?_
  refine V_loc (L' := [(1, .int (nI 0)), (0, .ref a)]) ⟨rfl, rfl, trivial⟩ ?_
  refine V.less (c' := 0) ?_ (Nat.zero_le _)
  refine lp_minit1 na0 hO7 (fun f hf => ?_) 3 0 (by omega)
  subst hf
  refine ⟨rfl, Am (fun i => match i with | 0 => a0 | 1 => a1 | 2 => a2 | 3 => a3 | 4 => a4 | 5 => a5 | _ => a6) a, rfl, ?_, ?_, ?_, fun q b hq hb => ?_⟩
  · intro i j hi hj _ _ e
    match i, j, hi, hj, e with
    | 0, 0, _, _, e => rfl
    | 0, 1, _, _, e => exact absurd e n0_1
    | 0, 2, _, _, e => exact absurd e n0_2
    | 0, 3, _, _, e => exact absurd e n0_3
    | 0, 4, _, _, e => exact absurd e n0_4
    | 0, 5, _, _, e => exact absurd e n0_5
    | 0, 6, _, _, e => exact absurd e n0_6
    | 0, 7, _, _, e => exact absurd e na0
    | 1, 0, _, _, e => exact absurd e.symm n0_1
    | 1, 1, _, _, e => rfl
    | 1, 2, _, _, e => exact absurd e n1_2
    | 1, 3, _, _, e => exact absurd e n1_3
    | 1, 4, _, _, e => exact absurd e n1_4
    | 1, 5, _, _, e => exact absurd e n1_5
    | 1, 6, _, _, e => exact absurd e n1_6
    | 1, 7, _, _, e => exact absurd e na1
    | 2, 0, _, _, e => exact absurd e.symm n0_2
    | 2, 1, _, _, e => exact absurd e.symm n1_2
    | 2, 2, _, _, e => rfl
    | 2, 3, _, _, e => exact absurd e n2_3
    | 2, 4, _, _, e => exact absurd e n2_4
    | 2, 5, _, _, e => exact absurd e n2_5
    | 2, 6, _, _, e => exact absurd e n2_6
    | 2, 7, _, _, e => exact absurd e na2
    | 3, 0, _, _, e => exact absurd e.symm n0_3
    | 3, 1, _, _, e => exact absurd e.symm n1_3
    | 3, 2, _, _, e => exact absurd e.symm n2_3
    | 3, 3, _, _, e => rfl
    | 3, 4, _, _, e => exact absurd e n3_4
    | 3, 5, _, _, e => exact absurd e n3_5
    | 3, 6, _, _, e => exact absurd e n3_6
    | 3, 7, _, _, e => exact absurd e na3
    | 4, 0, _, _, e => exact absurd e.symm n0_4
    | 4, 1, _, _, e => exact absurd e.symm n1_4
    | 4, 2, _, _, e => exact absurd e.symm n2_4
    | 4, 3, _, _, e => exact absurd e.symm n3_4
    | 4, 4, _, _, e => rfl
    | 4, 5, _, _, e => exact absurd e n4_5
    | 4, 6, _, _, e => exact absurd e n4_6
    | 4, 7, _, _, e => exact absurd e na4
    | 5, 0, _, _, e => exact absurd e.symm n0_5
    | 5, 1, _, _, e => exact absurd e.symm n1_5
    | 5, 2, _, _, e => exact absurd e.symm n2_5
    | 5, 3, _, _, e => exact absurd e.symm n3_5
    | 5, 4, _, _, e => exact absurd e.symm n4_5
    | 5, 5, _, _, e => rfl
    | 5, 6, _, _, e => exact absurd e n5_6
    | 5, 7, _, _, e => exact absurd e na5
    | 6, 0, _, _, e => exact absurd e.symm n0_6
    | 6, 1, _, _, e => exact absurd e.symm n1_6
    | 6, 2, _, _, e => exact absurd e.symm n2_6
    | 6, 3, _, _, e => exact absurd e.symm n3_6
    | 6, 4, _, _, e => exact absurd e.symm n4_6
    | 6, 5, _, _, e => exact absurd e.symm n5_6
    | 6, 6, _, _, e => rfl
    | 6, 7, _, _, e => exact absurd e na6
    | 7, 0, _, _, e => exact absurd e.symm na0
    | 7, 1, _, _, e => exact absurd e.symm na1
    | 7, 2, _, _, e => exact absurd e.symm na2
    | 7, 3, _, _, e => exact absurd e.symm na3
    | 7, 4, _, _, e => exact absurd e.symm na4
    | 7, 5, _, _, e => exact absurd e.symm na5
    | 7, 6, _, _, e => exact absurd e.symm na6
    | 7, 7, _, _, e => rfl
  · intro k hk
    match k, hk with
    | 0, _ => exact pn_0
    | 1, _ => exact pn_1
    | 2, _ => exact pn_2
    | 3, _ => exact pn_3
    | 4, _ => exact pn_4
    | 5, _ => exact pn_5
    | 6, _ => exact pn_6
  · intro k hk
    match k, hk with
    | 0, _ => exact hu_s
    | 1, _ => exact (hu_n (Ne.symm n0_1)).trans hq1
    | 2, _ => exact (hu_n (Ne.symm n0_2)).trans hq2
    | 3, _ => exact (hu_n (Ne.symm n0_3)).trans hq3
    | 4, _ => exact (hu_n (Ne.symm n0_4)).trans hq4
    | 5, _ => exact (hu_n (Ne.symm n0_5)).trans hq5
    | 6, _ => exact (hu_n (Ne.symm n0_6)).trans hq6
    | 7, _ => exact (hu_n (Ne.symm na0)).trans hO7
  · have e0 : q ≠ a0 := fun e => by rw [e, pn_0] at hb; cases hb
    exact (hu_n e0).trans (frA q b hq hb)

