set_option maxRecDepth 100000
theorem upd_upd {f : Nat → Int32} {k : Nat} {a b : Int32} : upd (upd f k a) k b = upd f k b := by
  funext i
  unfold upd
  by_cases e : i = k
  · rw [if_pos e, if_pos e]
  · rw [if_neg e, if_neg e, if_neg e]
theorem upd_is {f : Nat → Int32} {k : Nat} {v : Int32} (h : f k = v) : upd f k v = f := by
  funext i
  unfold upd
  by_cases e : i = k
  · rw [if_pos e, e, h]
  · rw [if_neg e]
theorem ss_sa6 {S : Nat → Nat → Int32} {f : Nat → Int32} {k : Nat} {v : Int32} : sa (ss S k v) 6 f = ss (sa S 6 f) k v := by
  unfold ss
  rw [show (sa S 6 f) 7 = S 7 from rfl, sa_cm (by decide)]
theorem dg_id {S : Nat → Nat → Int32} {k p : Nat} {v : Int32} (h6 : S 6 k = v) (hat : S 7 4 = nI p) : ss (sa S 6 (upd (S 6) k v)) 4 (nI p) = S := by
  rw [upd_is h6, sa_id, ss_is hat]
theorem dg_cm {S : Nat → Nat → Int32} {k : Nat} {a b c d : Int32} : ss (sa (sa (ss S 4 a) 6 (upd ((ss S 4 a) 6) k b)) 6 (upd ((sa (ss S 4 a) 6 (upd ((ss S 4 a) 6) k b)) 6) k c)) 4 d = ss (sa S 6 (upd (S 6) k c)) 4 d := by
  rw [sa_s, ss_ar (by decide), sa_sa, upd_upd, ss_sa6, ss_ss]
theorem pD_s {T : List Int32} {n : Nat} {v : Int32} {p : Nat} : pD T (n + 1) v p = if digB (hereT T p) = true then pD T n (10 * v + hereT T p - 48) (p + 1) else (p, v) := rfl
theorem nI_p {j : Nat} (hj : j < 1000) : nI j ≤ 0 ↔ j = 0 := by
  rw [show (0 : Int32) = nI 0 from rfl, nJ_le hj (by decide)]
  omega
set_option maxHeartbeats 4000000 in
set_option maxRecDepth 100000 in
theorem lp_mdigits {G : GG} {A : Nat → Nat} {h : HP} (hi : inj 8 mdom A) {T : List Int32} {x y : Int32} {k m : Nat} (hx : x.toInt = (m : Int)) (hm : m < 100) (hy : y.toInt = (k : Int)) (hk3 : k < 3) (bb : Bool) : ∀ (n j : Nat) (v : Int32) (p : Nat) (S : Nat → Nat → Int32), j + n = m → MT S T → S 7 4 = nI p → S 6 k = v → p ≤ T.length → (bb = true ↔ (0 < j ∨ (0 < n ∧ digB (hereT T p) = true))) → V G 1 M_X3_digits 9 [(3, .int (nI j)), (2, .int x), (1, .int y), (0, .ref (A 7))] [] (ov (mdH A S) h) 0 (eQ (some (.int (bi bb))) (ov (mdH A (ss (sa S 6 (upd (S 6) k (pD T n v p).2)) 4 (nI (pD T n v p).1))) h)) := by
  intro n
  induction n with
  | zero =>
    intro j v p S hj hM hat h6 hp hbb
    have hbb2 : bb = true ↔ 0 < j := ⟨fun e => (hbb.mp e).resolve_right (fun h => absurd h.1 (Nat.lt_irrefl 0)), fun e => hbb.mpr (Or.inl e)⟩
    refine r_iload_n dX3_digits_9 rfl ?_
    refine r_iload_n dX3_digits_10 rfl ?_
    refine r_icmp_ge 85 dX3_digits_11 rfl (fun c11 => ?_) (fun c11 => absurd c11 (fun e => e (by rw [Int32.le_iff_toInt_le, hx, nIn (by omega)]; omega)))
    refine r_iload_n dX3_digits_85 rfl ?_
    refine r_if_le 93 dX3_digits_86 rfl (fun c86 => ?_) (fun c86 => ?_)
    · refine r_iconst (v := 0) dX3_digits_93 rfl ?_
      exact r_ireturn dX3_digits_94 rfl (by first | rfl | exact bi_nar) (by rw [show bb = false from Bool.eq_false_iff.mpr (fun e => absurd (hbb2.mp e) (by have := (nI_p (by omega)).mp c86; omega))]; exact ⟨rfl, by rw [show pD T 0 v p = (p, v) from rfl]; rw [dg_id h6 hat]⟩)
    · refine r_iconst (v := 1) dX3_digits_89 rfl ?_
      refine r_goto 94 dX3_digits_90 rfl ?_
      exact r_ireturn dX3_digits_94 rfl (by first | rfl | exact bi_nar) (by rw [show bb = true from hbb2.mpr (Nat.pos_of_ne_zero (fun e => c86 ((nI_p (by omega)).mpr e)))]; exact ⟨rfl, by rw [show pD T 0 v p = (p, v) from rfl]; rw [dg_id h6 hat]⟩)
  | succ n ih =>
    intro j v p S hj hM hat h6 hp hbb
    have hT60 := hM.2.1
    have nd : ¬ digB (hereT T p) = true → (bb = true ↔ 0 < j) := fun hn => ⟨fun e => (hbb.mp e).resolve_right (fun h => hn h.2), fun e => hbb.mpr (Or.inl e)⟩
    refine r_iload_n dX3_digits_9 rfl ?_
    refine r_iload_n dX3_digits_10 rfl ?_
    refine r_icmp_ge 85 dX3_digits_11 rfl (fun c11 => absurd c11 (by rw [Int32.le_iff_toInt_le, hx, nIn (by omega)]; omega)) (fun c11 => ?_)
    first | refine r_aload_n dX3_digits_14 rfl ?_ | refine r_aload_nq dX3_digits_14 rfl ?_ | refine r_aload_nN dX3_digits_14 rfl ?_
    refine r_getfield 3 10 dX3_digits_15 rfl (Nat.le_of_ble_eq_true rfl) (lkA q1900) (Or.inl rfl) (Or.inl (m_o hi)) (congrArg (fun z => some (Value.int z)) hat) ?_
    first | refine r_aload_n dX3_digits_18 rfl ?_ | refine r_aload_nq dX3_digits_18 rfl ?_ | refine r_aload_nN dX3_digits_18 rfl ?_
    refine r_getfield 3 9 dX3_digits_19 rfl (Nat.le_of_ble_eq_true rfl) (lkA q1899) (Or.inl rfl) (Or.inl (m_o hi)) (congrArg (fun z => some (Value.int z)) hM.1) ?_
    refine r_icmp_ge 85 dX3_digits_22 rfl (fun c22 => ?_) (fun c22 => ?_)
    · have hn9 : ¬ digB (hereT T p) = true := by
        rw [here_out (by have := (nJ_le (show T.length < 1000 by omega) (show p < 1000 by omega)).mp c22; omega)]
        decide
      have hbb2 := nd hn9
      refine r_iload_n dX3_digits_85 rfl ?_
      refine r_if_le 93 dX3_digits_86 rfl (fun c86 => ?_) (fun c86 => ?_)
      · refine r_iconst (v := 0) dX3_digits_93 rfl ?_
        exact r_ireturn dX3_digits_94 rfl (by first | rfl | exact bi_nar) (by rw [show bb = false from Bool.eq_false_iff.mpr (fun e => absurd (hbb2.mp e) (by have := (nI_p (by omega)).mp c86; omega))]; exact ⟨rfl, by rw [pD_s, if_neg hn9]; rw [dg_id h6 hat]⟩)
      · refine r_iconst (v := 1) dX3_digits_89 rfl ?_
        refine r_goto 94 dX3_digits_90 rfl ?_
        exact r_ireturn dX3_digits_94 rfl (by first | rfl | exact bi_nar) (by rw [show bb = true from hbb2.mpr (Nat.pos_of_ne_zero (fun e => c86 ((nI_p (by omega)).mpr e)))]; exact ⟨rfl, by rw [pD_s, if_neg hn9]; rw [dg_id h6 hat]⟩)
    · have hpl : p < T.length := Nat.lt_of_not_le (fun e => c22 ((nJ_le (by omega) (by omega)).mpr e))
      first | refine r_aload_n dX3_digits_25 rfl ?_ | refine r_aload_nq dX3_digits_25 rfl ?_ | refine r_aload_nN dX3_digits_25 rfl ?_
      refine r_getfield 3 8 dX3_digits_26 rfl (Nat.le_of_ble_eq_true rfl) (lkA q1898) (Or.inl rfl) (Or.inl (m_o hi)) (by rfl) ?_
      first | refine r_aload_n dX3_digits_29 rfl ?_ | refine r_aload_nq dX3_digits_29 rfl ?_ | refine r_aload_nN dX3_digits_29 rfl ?_
      refine r_getfield 3 10 dX3_digits_30 rfl (Nat.le_of_ble_eq_true rfl) (lkA q1900) (Or.inl rfl) (Or.inl (m_o hi)) (congrArg (fun z => some (Value.int z)) hat) ?_
      refine r_iaload (p) dX3_digits_33 (by first | exact Or.inl (m_a0 hi) | exact Or.inl (m_a1 hi) | exact Or.inl (m_a2 hi) | exact Or.inl (m_a3 hi) | exact Or.inl (m_a4 hi) | exact Or.inl (m_a5 hi) | exact Or.inl (m_a6 hi)) (nIn (by omega)) (by omega) rfl ?_
      refine r_bipush (v := 48) dX3_digits_34 rfl ?_
      refine r_bipush (v := 57) dX3_digits_36 rfl ?_
      refine r_invS dX3_digits_38 sp_X3_in rfl mo_X3_in (lkA q1947) (lkA q1948) (lkA q82) mp_X3_in (Nat.le_of_ble_eq_true rfl) (Nat.le_of_ble_eq_true rfl) (Nat.le_of_ble_eq_true rfl) (kr_e ?_) kx_e
      refine r_if_eq 85 dX3_digits_41 rfl (fun c41 => ?_) (fun c41 => ?_)
      · have hn9 : ¬ digB (hereT T p) = true := fun e => by rw [← MT_h hM hpl] at e; rw [show isn (S 5 p) 48 57 = true from e] at c41; exact absurd c41 (by decide)
        have hbb2 := nd hn9
        refine r_iload_n dX3_digits_85 rfl ?_
        refine r_if_le 93 dX3_digits_86 rfl (fun c86 => ?_) (fun c86 => ?_)
        · refine r_iconst (v := 0) dX3_digits_93 rfl ?_
          exact r_ireturn dX3_digits_94 rfl (by first | rfl | exact bi_nar) (by rw [show bb = false from Bool.eq_false_iff.mpr (fun e => absurd (hbb2.mp e) (by have := (nI_p (by omega)).mp c86; omega))]; exact ⟨rfl, by rw [pD_s, if_neg hn9]; rw [dg_id h6 hat]⟩)
        · refine r_iconst (v := 1) dX3_digits_89 rfl ?_
          refine r_goto 94 dX3_digits_90 rfl ?_
          exact r_ireturn dX3_digits_94 rfl (by first | rfl | exact bi_nar) (by rw [show bb = true from hbb2.mpr (Nat.pos_of_ne_zero (fun e => c86 ((nI_p (by omega)).mpr e)))]; exact ⟨rfl, by rw [pD_s, if_neg hn9]; rw [dg_id h6 hat]⟩)
      · first | refine r_aload_n dX3_digits_44 rfl ?_ | refine r_aload_nq dX3_digits_44 rfl ?_ | refine r_aload_nN dX3_digits_44 rfl ?_
        refine r_getfield 3 12 dX3_digits_45 rfl (Nat.le_of_ble_eq_true rfl) (lkA q1902) (Or.inl rfl) (Or.inl (m_o hi)) (by rfl) ?_
        refine r_iload_n dX3_digits_48 rfl ?_
        refine r_bipush (v := 10) dX3_digits_49 rfl ?_
        first | refine r_aload_n dX3_digits_51 rfl ?_ | refine r_aload_nq dX3_digits_51 rfl ?_ | refine r_aload_nN dX3_digits_51 rfl ?_
        refine r_getfield 3 12 dX3_digits_52 rfl (Nat.le_of_ble_eq_true rfl) (lkA q1902) (Or.inl rfl) (Or.inl (m_o hi)) (by rfl) ?_
        refine r_iload_n dX3_digits_55 rfl ?_
        refine r_iaload (k) dX3_digits_56 (by first | exact Or.inl (m_a0 hi) | exact Or.inl (m_a1 hi) | exact Or.inl (m_a2 hi) | exact Or.inl (m_a3 hi) | exact Or.inl (m_a4 hi) | exact Or.inl (m_a5 hi) | exact Or.inl (m_a6 hi)) hy (by omega) h6 ?_
        refine r_imul dX3_digits_57 ?_
        first | refine r_aload_n dX3_digits_58 rfl ?_ | refine r_aload_nq dX3_digits_58 rfl ?_ | refine r_aload_nN dX3_digits_58 rfl ?_
        refine r_getfield 3 8 dX3_digits_59 rfl (Nat.le_of_ble_eq_true rfl) (lkA q1898) (Or.inl rfl) (Or.inl (m_o hi)) (by rfl) ?_
        first | refine r_aload_n dX3_digits_62 rfl ?_ | refine r_aload_nq dX3_digits_62 rfl ?_ | refine r_aload_nN dX3_digits_62 rfl ?_
        refine r_dup dX3_digits_63 rfl ?_
        refine r_getfield 3 10 dX3_digits_64 rfl (Nat.le_of_ble_eq_true rfl) (lkA q1900) (Or.inl rfl) (Or.inl (m_o hi)) (congrArg (fun z => some (Value.int z)) hat) ?_
        refine r_dup_x1 dX3_digits_67 rfl rfl ?_
        refine r_iconst (v := 1) dX3_digits_68 rfl ?_
        refine r_iadd dX3_digits_69 ?_
        refine r_put 3 10 dX3_digits_70 rfl (Nat.le_of_ble_eq_true rfl) (lkA q1900) (Or.inl rfl) rfl (m_o hi) (by dsimp only [List.set]) (Nat.le_of_ble_eq_true rfl) rfl rfl (m_s4 hi) ?_
        refine r_iaload (p) dX3_digits_73 (by first | exact Or.inl (m_a0 hi) | exact Or.inl (m_a1 hi) | exact Or.inl (m_a2 hi) | exact Or.inl (m_a3 hi) | exact Or.inl (m_a4 hi) | exact Or.inl (m_a5 hi) | exact Or.inl (m_a6 hi)) (nIn (by omega)) (by omega) rfl ?_
        refine r_iadd dX3_digits_74 ?_
        refine r_bipush (v := 48) dX3_digits_75 rfl ?_
        refine r_isub dX3_digits_77 ?_
        refine r_iastore (k) dX3_digits_78 (m_a6 hi) hy (by omega) ?_
        rw [m_w6 hi]
        refine r_inc 1 dX3_digits_79 rfl rfl (Nat.le_of_ble_eq_true rfl) ?_
        refine r_goto 9 dX3_digits_82 rfl ?_
        have hd9 : digB (hereT T p) = true := by rw [← MT_h hM hpl]; exact bi_n0.mp c41
        refine V_loc (L' := [(3, .int (nI j + 1)), (2, .int x), (1, .int y), (0, .ref (A 7))]) ⟨rfl, rfl, rfl, rfl, trivial⟩ ?_
        rw [← nI_succ, ← nI_succ, show (ss S 4 (nI (p + 1))) 5 p = hereT T p from (MT_h hM hpl), pD_s, if_pos hd9]
        have := ih (j + 1) (10 * v + hereT T p - 48) (p + 1) (sa (ss S 4 (nI (p + 1))) 6 (upd ((ss S 4 (nI (p + 1))) 6) k (10 * v + hereT T p - 48))) (by omega) (MT_6 (MT_4 hM (by decide))) (show ss S 4 (nI (p + 1)) 7 4 = nI (p + 1) from ss_at) (by rw [sa_s, upd_s]) hpl ⟨fun _ => Or.inl (by omega), fun _ => hbb.mpr (Or.inr ⟨by omega, hd9⟩)⟩
        rw [dg_cm] at this
        exact this

theorem op_n {α : Type} {x : Option α} (h : bi x.isSome = 0) : x = none := by
  cases x with
  | none => rfl
  | some a => exact absurd h (show ¬ bi true = 0 by decide)
theorem opt_s {α : Type} {x : Option α} (h : ¬ bi x.isSome = 0) : ∃ a, x = some a := by
  cases x with
  | none => exact absurd (show bi false = 0 from rfl) h
  | some a => exact ⟨a, rfl⟩
theorem ng_s {b : Nat × Option Int32} : (pNeg b).2.isSome = b.2.isSome := by
  show (Option.map _ b.2).isSome = _
  rw [Option.isSome_map]
theorem ng_i {b : Nat × Option Int32} {z : Int32} (h : (pNeg b).2 = some z) : ∃ z1, b.2 = some z1 ∧ z = -z1 := by
  have h : Option.map (fun x => -x) b.2 = some z := h
  cases e : b.2 with
  | none => rw [e] at h; cases h
  | some z1 => rw [e] at h; exact ⟨z1, rfl, (Option.some.inj h).symm⟩
theorem pN_s {T : List Int32} {m p : Nat} : (pN T m p).2.isSome = digB (hereT T p) := by
  unfold pN
  by_cases e : digB (hereT T p) = true
  · rw [if_pos e, e]; rfl
  · rw [if_neg e, Bool.eq_false_iff.mpr e]; rfl
/-- what reading an order leaves alone -/
def mF (S S' : Nat → Nat → Int32) : Prop := (∀ i, i ≠ 6 → i ≠ 7 → S' i = S i) ∧ ∀ j, j ≠ 4 → j ≠ 5 → S' 7 j = S 7 j
theorem MT_F {S S' : Nat → Nat → Int32} {T : List Int32} (hM : MT S T) (hF : mF S S') : MT S' T := ⟨by rw [hF.2 3 (by decide) (by decide)]; exact hM.1, hM.2.1, fun j hj => by rw [hF.1 5 (by decide) (by decide)]; exact hM.2.2 j hj⟩
theorem mF_4 {S0 S : Nat → Nat → Int32} {v : Int32} (hF : mF S0 S) : mF S0 (ss S 4 v) := ⟨fun i h1 h2 => by rw [ss_ar h2]; exact hF.1 i h1 h2, fun j h1 h2 => by rw [ss_o h1]; exact hF.2 j h1 h2⟩
theorem mF_5 {S0 S : Nat → Nat → Int32} {v : Int32} (hF : mF S0 S) : mF S0 (ss S 5 v) := ⟨fun i h1 h2 => by rw [ss_ar h2]; exact hF.1 i h1 h2, fun j h1 h2 => by rw [ss_o h2]; exact hF.2 j h1 h2⟩
theorem mF_6 {S0 S : Nat → Nat → Int32} {f : Nat → Int32} (hF : mF S0 S) : mF S0 (sa S 6 f) := ⟨fun i h1 h2 => by rw [sa_n h1]; exact hF.1 i h1 h2, fun j h1 h2 => by rw [sa_n (by decide)]; exact hF.2 j h1 h2⟩
theorem mF_r {S : Nat → Nat → Int32} : mF S S := ⟨fun _ _ _ => rfl, fun _ _ _ => rfl⟩
def wdX (A : Nat → Nat) (S0 S : Nat → Nat → Int32) (h : HP) (b : Bool) (p' : Nat) : Oc → HP → Prop := rQ (fun v h' => v = some (.int (bi b)) ∧ ∃ S', h' = ov (mdH A S') h ∧ mF S0 S' ∧ S' 7 4 = nI p' ∧ S' 7 5 = S 7 5 ∧ S' 6 = S 6)
def dgX (A : Nat → Nat) (S0 S : Nat → Nat → Int32) (h : HP) (k : Nat) (r : Nat × Option Int32) : Oc → HP → Prop := rQ (fun v h' => v = some (.int (bi r.2.isSome)) ∧ ∃ S', h' = ov (mdH A S') h ∧ mF S0 S' ∧ S' 7 4 = nI r.1 ∧ S' 7 5 = S 7 5 ∧ (∀ j, j ≠ k → S' 6 j = S 6 j) ∧ ∀ x, r.2 = some x → S' 6 k = x)
set_option maxHeartbeats 4000000 in
set_option maxRecDepth 100000 in
theorem sp_X3_digits {G : GG} {A : Nat → Nat} {S : Nat → Nat → Int32} {h : HP} (hi : inj 8 mdom A) (hT : KT G) {ka : Nat → Nat} (hKC : KC G ka) {T : List Int32} {x y : Int32} {k m : Nat} (hx : x.toInt = (m : Int)) (hm : m < 100) (hm0 : 0 < m) (hy : y.toInt = (k : Int)) (hk3 : k < 3) {p : Nat} (hM : MT S T) (hat : S 7 4 = nI p) (hp : p ≤ T.length)  : Ct G 1 0 M_X3_digits [.ref (A 7), .int y, .int x] (ov (mdH A S) h) ((eQ (some (.int (bi (digB (hereT T p))))) (ov (mdH A (ss (sa S 6 (upd (S 6) k (pD T m 0 p).2)) 4 (nI (pD T m 0 p).1))) h))) := by
  refine ct_intro my_X3_digits (Nat.le_of_ble_eq_true rfl) ?_
  refine r_iconst (v := 0) dX3_digits_0 rfl ?_
  refine r_istore_n dX3_digits_1 (Nat.le_of_ble_eq_true rfl) ?_
  first | refine r_aload_n dX3_digits_2 rfl ?_ | refine r_aload_nq dX3_digits_2 rfl ?_ | refine r_aload_nN dX3_digits_2 rfl ?_
  refine r_getfield 3 12 dX3_digits_3 rfl (Nat.le_of_ble_eq_true rfl) (lkA q1902) (Or.inl rfl) (Or.inl (m_o hi)) (by rfl) ?_
  refine r_iload_n dX3_digits_6 rfl ?_
  refine r_iconst (v := 0) dX3_digits_7 rfl ?_
  refine r_iastore (k) dX3_digits_8 (m_a6 hi) hy (by omega) ?_
  rw [m_w6 hi]
  refine V_loc (L' := [(3, .int (nI 0)), (2, .int x), (1, .int y), (0, .ref (A 7))]) ⟨rfl, rfl, rfl, rfl, trivial⟩ ?_
  have := lp_mdigits (G := G) (A := A) (h := h) hi hx hm hy hk3 (digB (hereT T p)) m 0 0 p (sa S 6 (upd (S 6) k 0)) (by omega) (MT_6 hM) hat (by rw [sa_s, upd_s]) hp ⟨fun e => Or.inr ⟨hm0, e⟩, fun e => e.elim (fun h => absurd h (Nat.lt_irrefl 0)) (fun h => h.2)⟩
  rw [sa_s, sa_sa, upd_upd] at this
  exact this

theorem sp_dgX {G : GG} {A : Nat → Nat} {S : Nat → Nat → Int32} {h : HP} (hi : inj 8 mdom A) (hT : KT G) {ka : Nat → Nat} (hKC : KC G ka) {T : List Int32} {x y : Int32} {k m : Nat} (hx : x.toInt = (m : Int)) (hm : m < 100) (hm0 : 0 < m) (hy : y.toInt = (k : Int)) (hk3 : k < 3) {p : Nat} (hM : MT S T) (hat : S 7 4 = nI p) (hp : p ≤ T.length) {S0 : Nat → Nat → Int32} (hF : mF S0 S) : Ct G 1 0 M_X3_digits [.ref (A 7), .int y, .int x] (ov (mdH A S) h) (dgX A S0 S h k (pN T m p)) := by
  refine (sp_X3_digits hi hT hKC hx hm hm0 hy hk3 hM hat hp).mono (fun o h' hq => ?_)
  rcases o with v | q
  · obtain ⟨rfl, rfl⟩ := hq
    refine ⟨by rw [pN_s], _, rfl, mF_4 (mF_6 hF), ?_, ?_, fun j hj => ?_, fun z hz => ?_⟩
    · rw [ss_at]
      unfold pN
      by_cases e : digB (hereT T p) = true
      · rw [if_pos e]
      · obtain ⟨m, rfl⟩ : ∃ m', m = m' + 1 := ⟨m - 1, by omega⟩
        rw [if_neg e, pD_s, if_neg e]
    · rw [ss_o (by decide)]
      rfl
    · rw [ss_ar (by decide), sa_s, upd_n hj]
    · rw [ss_ar (by decide), sa_s, upd_s]
      unfold pN at hz
      by_cases e : digB (hereT T p) = true
      · rw [if_pos e] at hz; exact Option.some.inj hz
      · rw [if_neg e] at hz; cases hz
  · exact hq.elim
theorem sp_wdX {G : GG} {A : Nat → Nat} {S : Nat → Nat → Int32} {h : HP} (hi : inj 8 mdom A) (hT : KT G) {ka : Nat → Nat} (hKC : KC G ka) {T : List Int32} {k : Nat} (hk20 : k < 20) {p : Nat} (hM : MT S T) (hat : S 7 4 = nI p) (hp : p ≤ T.length) {S0 : Nat → Nat → Int32} (hF : mF S0 S) : Ct G 4 0 M_X3_word [.ref (A 7), .ref (ka k)] (ov (mdH A S) h) (wdX A S0 S h (pX T (kch k) (kch k).length 0 p).2 (pX T (kch k) (kch k).length 0 p).1) := by
  refine (sp_X3_word hi hT hKC hk20 hM hat hp).mono (fun o h' hq => ?_)
  rcases o with v | q
  · obtain ⟨rfl, rfl⟩ := hq
    exact ⟨rfl, _, rfl, mF_4 hF, ss_at, ss_o (by decide), rfl⟩
  · exact hq.elim
theorem pX_1 {T : List Int32} {k : Nat} {c : Int32} {p : Nat} (hk : kch k = [c]) : pX T (kch k) (kch k).length 0 p = if hereT T p = c then (p + 1, true) else (p, false) := by
  rw [hk]
  rfl
theorem sp_sgX {G : GG} {A : Nat → Nat} {S : Nat → Nat → Int32} {h : HP} (hi : inj 8 mdom A) (hT : KT G) {ka : Nat → Nat} (hKC : KC G ka) {T : List Int32} {k : Nat} (hk20 : k < 20) {c : Int32} (hk : kch k = [c]) {p : Nat} (hM : MT S T) (hat : S 7 4 = nI p) (hp : p ≤ T.length) {S0 : Nat → Nat → Int32} (hF : mF S0 S) : Ct G 4 0 M_X3_word [.ref (A 7), .ref (ka k)] (ov (mdH A S) h) (wdX A S0 S h (decide (hereT T p = c)) (if hereT T p = c then p + 1 else p)) := by
  have := sp_wdX (h := h) hi hT hKC hk20 hM hat hp hF
  rw [pX_1 hk] at this
  by_cases e : hereT T p = c
  · rw [if_pos e] at this ⊢
    rw [decide_eq_true e]
    exact this
  · rw [if_neg e] at this ⊢
    rw [decide_eq_false e]
    exact this
set_option maxHeartbeats 4000000 in
set_option maxRecDepth 100000 in
theorem sp_X3_signed {G : GG} {A : Nat → Nat} {S : Nat → Nat → Int32} {h : HP} (hi : inj 8 mdom A) (hT : KT G) {ka : Nat → Nat} (hKC : KC G ka) {T : List Int32} {y : Int32} {k : Nat} (hy : y.toInt = (k : Int)) (hk3 : k < 3) {p : Nat} (hM : MT S T) (hat : S 7 4 = nI p) (hp : p ≤ T.length) {S0 : Nat → Nat → Int32} (hF : mF S0 S) (hM0 : MT S0 T) : Ct G 5 0 M_X3_signed [.ref (A 7), .int y] (ov (mdH A S) h) (dgX A S0 S h k (pS T p)) := by
  refine ct_intro my_X3_signed (Nat.le_of_ble_eq_true rfl) ?_
  have hT60 := hM.2.1
  first | refine r_aload_n dX3_signed_0 rfl ?_ | refine r_aload_nq dX3_signed_0 rfl ?_ | refine r_aload_nN dX3_signed_0 rfl ?_
  refine r_getfield 3 10 dX3_signed_1 rfl (Nat.le_of_ble_eq_true rfl) (lkA q1900) (Or.inl rfl) (Or.inl (m_o hi)) (congrArg (fun z => some (Value.int z)) hat) ?_
  first | refine r_aload_n dX3_signed_4 rfl ?_ | refine r_aload_nq dX3_signed_4 rfl ?_ | refine r_aload_nN dX3_signed_4 rfl ?_
  refine r_getfield 3 9 dX3_signed_5 rfl (Nat.le_of_ble_eq_true rfl) (lkA q1899) (Or.inl rfl) (Or.inl (m_o hi)) (congrArg (fun z => some (Value.int z)) hM.1) ?_
  refine r_icmp_ge 29 dX3_signed_8 rfl (fun c8 => ?_) (fun c8 => ?_)
  · refine r_iconst (v := 0) dX3_signed_29 rfl ?_
    refine r_istore_n dX3_signed_30 (Nat.le_of_ble_eq_true rfl) ?_
    have n45 : ¬ hereT T p = 45 := here_na (by have := (nJ_le (show T.length < 1000 by omega) (show p < 1000 by omega)).mp c8; omega) (by decide)
    refine r_iload_n dX3_signed_31 rfl ?_
    refine r_if_ne 46 dX3_signed_32 rfl (fun c32 => absurd c32 (by decide)) (fun c32 => ?_)
    first | refine r_aload_n dX3_signed_35 rfl ?_ | refine r_aload_nq dX3_signed_35 rfl ?_ | refine r_aload_nN dX3_signed_35 rfl ?_
    refine r_ldcS dX3_signed_36 (show Str G "BrushSellersModel" 163 "+" (ka 15) from hKC.1 22 (Nat.le_of_ble_eq_true rfl)) ?_
    refine r_invV dX3_signed_38 (sp_sgX hi hT hKC (k := 15) (by decide) rfl hM hat hp hF) rfl mo_X3_word (Or.inl (m_o hi)) rfl (lkA q2132) (lkA q2134) (lkA qs54) rfl (lkA q82) mp_X3_word (Nat.le_of_ble_eq_true rfl) (Nat.le_of_ble_eq_true rfl) (Nat.le_of_ble_eq_true rfl) (kr_r (fun v9 h9 p9 => ?_)) kx_r
    obtain ⟨rfl, S1, rfl, hF1, hat1, h51, h61⟩ := p9
    refine r_if_ne 46 dX3_signed_41 rfl (fun c41 => ?_) (fun c41 => ?_)
    · have e43 : hereT T p = 43 := of_decide_eq_true (bi_n0.mp c41)
      rw [if_pos e43] at hat1
      have hpl := here_e e43 (by decide)
      have eS : pS T p = pN T 2 (p + 1) := by unfold pS; rw [if_neg n45, if_pos e43]
      have hM1 := MT_F hM0 hF1
      refine r_iload_n dX3_signed_46 rfl ?_
      refine r_if_eq 60 dX3_signed_47 rfl (fun c47 => ?_) (fun c47 => absurd c47 (fun e => e rfl))
      first | refine r_aload_n dX3_signed_60 rfl ?_ | refine r_aload_nq dX3_signed_60 rfl ?_ | refine r_aload_nN dX3_signed_60 rfl ?_
      refine r_iload_n dX3_signed_61 rfl ?_
      refine r_iconst (v := 2) dX3_signed_62 rfl ?_
      refine r_invV dX3_signed_63 (sp_dgX hi hT hKC (x := 2) (m := 2) rfl (by decide) (by decide) hy hk3 hM1 hat1 hpl hF1) rfl mo_X3_digits (Or.inl (m_o hi)) rfl (lkA q2138) (lkA q2140) (lkA qs55) rfl (lkA q82) mp_X3_digits (Nat.le_of_ble_eq_true rfl) (Nat.le_of_ble_eq_true rfl) (Nat.le_of_ble_eq_true rfl) (kr_r (fun v9 h9 p9 => ?_)) kx_r
      obtain ⟨rfl, S2, rfl, hF2, hat2, h52, h62, hv2⟩ := p9
      refine r_if_ne 71 dX3_signed_66 rfl (fun c66 => ?_) (fun c66 => ?_)
      · refine r_iload_n dX3_signed_71 rfl ?_
        refine r_if_eq 88 dX3_signed_72 rfl (fun c72 => ?_) (fun c72 => absurd c72 (fun e => e rfl))
        refine r_iconst (v := 1) dX3_signed_88 rfl ?_
        exact r_ireturn dX3_signed_89 rfl (by first | rfl | exact bi_nar) (by rw [eS]; exact ⟨by rw [bi_n0.mp c66]; rfl, S2, rfl, hF2, hat2, h52.trans h51, fun j hj => (h62 j hj).trans (by rw [h61]), hv2⟩)
      · refine r_iconst (v := 0) dX3_signed_69 rfl ?_
        exact r_ireturn dX3_signed_70 rfl (by first | rfl | exact bi_nar) (by rw [eS]; have e0 : (pN T 2 (p + 1)).2 = none := op_n c66; exact ⟨by rw [e0]; rfl, S2, rfl, hF2, hat2, h52.trans h51, fun j hj => (h62 j hj).trans (by rw [h61]), hv2⟩)
    · refine r_iconst (v := 0) dX3_signed_44 rfl ?_
      exact r_ireturn dX3_signed_45 rfl (by first | rfl | exact bi_nar) (by have e9 : ¬ hereT T p = 43 := of_decide_eq_false (bi_0.mp c41); rw [if_neg e9] at hat1; rw [show pS T p = (p, none) by unfold pS; rw [if_neg n45, if_neg e9]]; exact ⟨rfl, S1, rfl, hF1, hat1, h51, fun j _ => by rw [h61], fun z hz => by cases hz⟩)
  · have hpl : p < T.length := Nat.lt_of_not_le (fun e => c8 ((nJ_le (by omega) (by omega)).mpr e))
    first | refine r_aload_n dX3_signed_11 rfl ?_ | refine r_aload_nq dX3_signed_11 rfl ?_ | refine r_aload_nN dX3_signed_11 rfl ?_
    refine r_getfield 3 8 dX3_signed_12 rfl (Nat.le_of_ble_eq_true rfl) (lkA q1898) (Or.inl rfl) (Or.inl (m_o hi)) (by rfl) ?_
    first | refine r_aload_n dX3_signed_15 rfl ?_ | refine r_aload_nq dX3_signed_15 rfl ?_ | refine r_aload_nN dX3_signed_15 rfl ?_
    refine r_getfield 3 10 dX3_signed_16 rfl (Nat.le_of_ble_eq_true rfl) (lkA q1900) (Or.inl rfl) (Or.inl (m_o hi)) (congrArg (fun z => some (Value.int z)) hat) ?_
    refine r_iaload (p) dX3_signed_19 (by first | exact Or.inl (m_a0 hi) | exact Or.inl (m_a1 hi) | exact Or.inl (m_a2 hi) | exact Or.inl (m_a3 hi) | exact Or.inl (m_a4 hi) | exact Or.inl (m_a5 hi) | exact Or.inl (m_a6 hi)) (nIn (by omega)) (by omega) (MT_h hM hpl) ?_
    refine r_bipush (v := 45) dX3_signed_20 rfl ?_
    refine r_icmp_ne 29 dX3_signed_22 rfl (fun c22 => ?_) (fun c22 => ?_)
    · refine r_iconst (v := 0) dX3_signed_29 rfl ?_
      refine r_istore_n dX3_signed_30 (Nat.le_of_ble_eq_true rfl) ?_
      have n45 : ¬ hereT T p = 45 := c22
      refine r_iload_n dX3_signed_31 rfl ?_
      refine r_if_ne 46 dX3_signed_32 rfl (fun c32 => absurd c32 (by decide)) (fun c32 => ?_)
      first | refine r_aload_n dX3_signed_35 rfl ?_ | refine r_aload_nq dX3_signed_35 rfl ?_ | refine r_aload_nN dX3_signed_35 rfl ?_
      refine r_ldcS dX3_signed_36 (show Str G "BrushSellersModel" 163 "+" (ka 15) from hKC.1 22 (Nat.le_of_ble_eq_true rfl)) ?_
      refine r_invV dX3_signed_38 (sp_sgX hi hT hKC (k := 15) (by decide) rfl hM hat hp hF) rfl mo_X3_word (Or.inl (m_o hi)) rfl (lkA q2132) (lkA q2134) (lkA qs54) rfl (lkA q82) mp_X3_word (Nat.le_of_ble_eq_true rfl) (Nat.le_of_ble_eq_true rfl) (Nat.le_of_ble_eq_true rfl) (kr_r (fun v9 h9 p9 => ?_)) kx_r
      obtain ⟨rfl, S1, rfl, hF1, hat1, h51, h61⟩ := p9
      refine r_if_ne 46 dX3_signed_41 rfl (fun c41 => ?_) (fun c41 => ?_)
      · have e43 : hereT T p = 43 := of_decide_eq_true (bi_n0.mp c41)
        rw [if_pos e43] at hat1
        have hpl := here_e e43 (by decide)
        have eS : pS T p = pN T 2 (p + 1) := by unfold pS; rw [if_neg n45, if_pos e43]
        have hM1 := MT_F hM0 hF1
        refine r_iload_n dX3_signed_46 rfl ?_
        refine r_if_eq 60 dX3_signed_47 rfl (fun c47 => ?_) (fun c47 => absurd c47 (fun e => e rfl))
        first | refine r_aload_n dX3_signed_60 rfl ?_ | refine r_aload_nq dX3_signed_60 rfl ?_ | refine r_aload_nN dX3_signed_60 rfl ?_
        refine r_iload_n dX3_signed_61 rfl ?_
        refine r_iconst (v := 2) dX3_signed_62 rfl ?_
        refine r_invV dX3_signed_63 (sp_dgX hi hT hKC (x := 2) (m := 2) rfl (by decide) (by decide) hy hk3 hM1 hat1 hpl hF1) rfl mo_X3_digits (Or.inl (m_o hi)) rfl (lkA q2138) (lkA q2140) (lkA qs55) rfl (lkA q82) mp_X3_digits (Nat.le_of_ble_eq_true rfl) (Nat.le_of_ble_eq_true rfl) (Nat.le_of_ble_eq_true rfl) (kr_r (fun v9 h9 p9 => ?_)) kx_r
        obtain ⟨rfl, S2, rfl, hF2, hat2, h52, h62, hv2⟩ := p9
        refine r_if_ne 71 dX3_signed_66 rfl (fun c66 => ?_) (fun c66 => ?_)
        · refine r_iload_n dX3_signed_71 rfl ?_
          refine r_if_eq 88 dX3_signed_72 rfl (fun c72 => ?_) (fun c72 => absurd c72 (fun e => e rfl))
          refine r_iconst (v := 1) dX3_signed_88 rfl ?_
          exact r_ireturn dX3_signed_89 rfl (by first | rfl | exact bi_nar) (by rw [eS]; exact ⟨by rw [bi_n0.mp c66]; rfl, S2, rfl, hF2, hat2, h52.trans h51, fun j hj => (h62 j hj).trans (by rw [h61]), hv2⟩)
        · refine r_iconst (v := 0) dX3_signed_69 rfl ?_
          exact r_ireturn dX3_signed_70 rfl (by first | rfl | exact bi_nar) (by rw [eS]; have e0 : (pN T 2 (p + 1)).2 = none := op_n c66; exact ⟨by rw [e0]; rfl, S2, rfl, hF2, hat2, h52.trans h51, fun j hj => (h62 j hj).trans (by rw [h61]), hv2⟩)
      · refine r_iconst (v := 0) dX3_signed_44 rfl ?_
        exact r_ireturn dX3_signed_45 rfl (by first | rfl | exact bi_nar) (by have e9 : ¬ hereT T p = 43 := of_decide_eq_false (bi_0.mp c41); rw [if_neg e9] at hat1; rw [show pS T p = (p, none) by unfold pS; rw [if_neg n45, if_neg e9]]; exact ⟨rfl, S1, rfl, hF1, hat1, h51, fun j _ => by rw [h61], fun z hz => by cases hz⟩)
    · refine r_iconst (v := 1) dX3_signed_25 rfl ?_
      refine r_goto 30 dX3_signed_26 rfl ?_
      refine r_istore_n dX3_signed_30 (Nat.le_of_ble_eq_true rfl) ?_
      refine r_iload_n dX3_signed_31 rfl ?_
      refine r_if_ne 46 dX3_signed_32 rfl (fun c32 => ?_) (fun c32 => absurd c32 (by decide))
      have eS : pS T p = pNeg (pN T 2 (p + 1)) := if_pos c22
      refine r_iload_n dX3_signed_46 rfl ?_
      refine r_if_eq 60 dX3_signed_47 rfl (fun c47 => absurd c47 (by decide)) (fun c47 => ?_)
      first | refine r_aload_n dX3_signed_50 rfl ?_ | refine r_aload_nq dX3_signed_50 rfl ?_ | refine r_aload_nN dX3_signed_50 rfl ?_
      refine r_dup dX3_signed_51 rfl ?_
      refine r_getfield 3 10 dX3_signed_52 rfl (Nat.le_of_ble_eq_true rfl) (lkA q1900) (Or.inl rfl) (Or.inl (m_o hi)) (congrArg (fun z => some (Value.int z)) hat) ?_
      refine r_iconst (v := 1) dX3_signed_55 rfl ?_
      refine r_iadd dX3_signed_56 ?_
      refine r_put 3 10 dX3_signed_57 rfl (Nat.le_of_ble_eq_true rfl) (lkA q1900) (Or.inl rfl) rfl (m_o hi) (by dsimp only [List.set]) (Nat.le_of_ble_eq_true rfl) rfl rfl (m_s4 hi) ?_
      rw [← nI_succ]
      first | refine r_aload_n dX3_signed_60 rfl ?_ | refine r_aload_nq dX3_signed_60 rfl ?_ | refine r_aload_nN dX3_signed_60 rfl ?_
      refine r_iload_n dX3_signed_61 rfl ?_
      refine r_iconst (v := 2) dX3_signed_62 rfl ?_
      refine r_invV dX3_signed_63 (sp_dgX hi hT hKC (x := 2) (m := 2) rfl (by decide) (by decide) hy hk3 (MT_4 hM (by decide)) ss_at hpl (mF_4 hF)) rfl mo_X3_digits (Or.inl (m_o hi)) rfl (lkA q2138) (lkA q2140) (lkA qs55) rfl (lkA q82) mp_X3_digits (Nat.le_of_ble_eq_true rfl) (Nat.le_of_ble_eq_true rfl) (Nat.le_of_ble_eq_true rfl) (kr_r (fun v9 h9 p9 => ?_)) kx_r
      obtain ⟨rfl, S2, rfl, hF2, hat2, h52, h62, hv2⟩ := p9
      refine r_if_ne 71 dX3_signed_66 rfl (fun c66 => ?_) (fun c66 => ?_)
      · refine r_iload_n dX3_signed_71 rfl ?_
        refine r_if_eq 88 dX3_signed_72 rfl (fun c72 => absurd c72 (by decide)) (fun c72 => ?_)
        first | refine r_aload_n dX3_signed_75 rfl ?_ | refine r_aload_nq dX3_signed_75 rfl ?_ | refine r_aload_nN dX3_signed_75 rfl ?_
        refine r_getfield 3 12 dX3_signed_76 rfl (Nat.le_of_ble_eq_true rfl) (lkA q1902) (Or.inl rfl) (Or.inl (m_o hi)) (by rfl) ?_
        refine r_iload_n dX3_signed_79 rfl ?_
        first | refine r_aload_n dX3_signed_80 rfl ?_ | refine r_aload_nq dX3_signed_80 rfl ?_ | refine r_aload_nN dX3_signed_80 rfl ?_
        refine r_getfield 3 12 dX3_signed_81 rfl (Nat.le_of_ble_eq_true rfl) (lkA q1902) (Or.inl rfl) (Or.inl (m_o hi)) (by rfl) ?_
        refine r_iload_n dX3_signed_84 rfl ?_
        refine r_iaload (k) dX3_signed_85 (by first | exact Or.inl (m_a0 hi) | exact Or.inl (m_a1 hi) | exact Or.inl (m_a2 hi) | exact Or.inl (m_a3 hi) | exact Or.inl (m_a4 hi) | exact Or.inl (m_a5 hi) | exact Or.inl (m_a6 hi)) hy (by omega) rfl ?_
        refine r_ineg dX3_signed_86 ?_
        refine r_iastore (k) dX3_signed_87 (m_a6 hi) hy (by omega) ?_
        rw [m_w6 hi]
        refine r_iconst (v := 1) dX3_signed_88 rfl ?_
        exact r_ireturn dX3_signed_89 rfl (by first | rfl | exact bi_nar) (by rw [eS]; exact ⟨by rw [ng_s, bi_n0.mp c66]; rfl, _, rfl, mF_6 hF2, hat2, h52.trans (ss_o (by decide)), fun j hj => by rw [sa_s, upd_n hj]; exact (h62 j hj).trans (by rw [ss_ar (by decide)]), fun z hz => by obtain ⟨z1, h1, rfl⟩ := ng_i hz; rw [sa_s, upd_s, hv2 z1 h1]⟩)
      · refine r_iconst (v := 0) dX3_signed_69 rfl ?_
        exact r_ireturn dX3_signed_70 rfl (by first | rfl | exact bi_nar) (by rw [eS]; have e0 : (pN T 2 (p + 1)).2 = none := op_n c66; exact ⟨by rw [ng_s, e0]; rfl, S2, rfl, hF2, hat2, h52.trans (ss_o (by decide)), fun j hj => (h62 j hj).trans (by rw [ss_ar (by decide)]), fun z hz => by obtain ⟨z1, h1, -⟩ := ng_i hz; rw [e0] at h1; cases h1⟩)

