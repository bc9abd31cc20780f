set_option maxRecDepth 100000
set_option maxHeartbeats 4000000 in
set_option maxRecDepth 100000 in
theorem sp_J3_init {G : GG} {h : HP} {a : Nat} {x0 x1 x2 x3 : Value} (ha : h a = some (bO 11 [x0, x1, x2, x3])) : Ct G 3 0 M_J3_init [.ref a] h (eQ none (hu h a (bO 11 [.int 0, x1, x2, x3]))) := by
  refine ct_intro my_J3_init (Nat.le_of_ble_eq_true rfl) ?_
  first | refine r_aload_n dJ3_init_0 rfl ?_ | refine r_aload_nq dJ3_init_0 rfl ?_ | refine r_aload_nN dJ3_init_0 rfl ?_
  refine r_invI dJ3_init_1 (sp_J1_initL ha) rfl mo_J1_init (lkA q163) (lkA q126) rfl rfl rfl (lkA q67) mp_J1_init (Nat.le_of_ble_eq_true rfl) (Nat.le_of_ble_eq_true rfl) (Nat.le_of_ble_eq_true rfl) (kr_e ?_) kx_e
  try simp only [hu_hu]
  exact r_return dJ3_init_4 rfl (by first | exact ⟨rfl, rfl⟩ | rfl)

set_option maxHeartbeats 4000000 in
set_option maxRecDepth 100000 in
theorem sp_J4_init {G : GG} {h : HP} {a : Nat} {x0 x1 x2 x3 : Value} (ha : h a = some (bO 11 [x0, x1, x2, x3])) : Ct G 4 0 M_J4_init [.ref a] h (eQ none (hu h a (bO 11 [.int 0, .int 0, x2, x3]))) := by
  refine ct_intro my_J4_init (Nat.le_of_ble_eq_true rfl) ?_
  first | refine r_aload_n dJ4_init_0 rfl ?_ | refine r_aload_nq dJ4_init_0 rfl ?_ | refine r_aload_nN dJ4_init_0 rfl ?_
  refine r_invI dJ4_init_1 (sp_J3_init ha) rfl mo_J3_init (lkA q160) (lkA q161) rfl rfl rfl (lkA q69) mp_J3_init (Nat.le_of_ble_eq_true rfl) (Nat.le_of_ble_eq_true rfl) (Nat.le_of_ble_eq_true rfl) (kr_e ?_) kx_e
  try simp only [hu_hu]
  first | refine r_aload_n dJ4_init_4 rfl ?_ | refine r_aload_nq dJ4_init_4 rfl ?_ | refine r_aload_nN dJ4_init_4 rfl ?_
  refine r_iconst (v := 0) dJ4_init_5 rfl ?_
  refine r_put 11 1 dJ4_init_6 rfl (Nat.le_of_ble_eq_true rfl) (lkA q164) (Or.inl rfl) rfl (by repeat' first | assumption | exact hu_s | refine hu_o (by assumption) ?_ | refine (hu_n (by first | assumption | exact Ne.symm (by assumption) | exact ne_o (by assumption) (by assumption) | exact Ne.symm (ne_o (by assumption) (by assumption)))).trans ?_) (by dsimp only [List.set]) (Nat.le_of_ble_eq_true rfl) rfl rfl (by first | exact hu_hu | exact rfl) ?_
  exact r_return dJ4_init_9 rfl (by first | exact ⟨rfl, rfl⟩ | rfl)

section V18
variable {G : GG} {d : Nat} {M : Mt} {pc : Nat} {L : List (Nat × Value)} {st : List Value} {h : HP} {c : Nat} {Q : Oc → HP → Prop}
theorem V_gen (k : ∀ H : HP, h = H → V G d M pc L st H c Q) : V G d M pc L st h c Q := k h rfl
end V18
theorem st2 {H H' : HP} {a q r : Nat} {R Y Z ya : Bd} (hH : hu (hu (hu H r R) q Y) a Z = H') (hq : H q = none) (hr : H r = none) (hrq : r ≠ q) (ha : H a = some ya) : H' a = some Z ∧ H' q = some Y ∧ H' r = some R ∧ (∀ x b, x ≠ a → H x = some b → H' x = some b) := by
  subst hH
  have eq : q ≠ a := Ne.symm (ne_o hq ha)
  have er : r ≠ a := Ne.symm (ne_o hr ha)
  refine ⟨hu_s, (hu_n eq).trans hu_s, (hu_n er).trans ((hu_n hrq).trans hu_s), fun x b hx hb => ?_⟩
  rw [hu_n hx, hu_n (ne_o hq hb), hu_n (ne_o hr hb), hb]
theorem st1 {H H' : HP} {a q : Nat} {Y Z ya : Bd} (hH : hu (hu H q Y) a Z = H') (hq : H q = none) (ha : H a = some ya) : H' a = some Z ∧ H' q = some Y ∧ (∀ x b, x ≠ a → H x = some b → H' x = some b) := by
  subst hH
  have eq : q ≠ a := Ne.symm (ne_o hq ha)
  refine ⟨hu_s, (hu_n eq).trans hu_s, fun x b hx hb => ?_⟩
  rw [hu_n hx, hu_n (ne_o hq hb), hb]
/-- a company at its start, n bristles laid in -/
def wI (n : Nat) : Nat → Int32 := fun i => if i = 4 then 50 else if i = 5 then nI (40 * n) else if 14 ≤ i ∧ i < 14 + n then 40 else if 53 ≤ i ∧ i < 133 ∧ (i - 53) % 4 = 0 then 5 else 0
theorem wI_t {n k : Nat} (hn : n ≤ 3) (hk : k < 20) : wI n (53 + 4 * k) = 5 := by
  unfold wI
  rw [if_neg (by omega), if_neg (by omega), if_neg (by omega), if_pos (by omega)]
theorem wI_z {n k m : Nat} (hn : n ≤ 3) (hk : k < 20) (hm : 0 < m ∧ m < 4) : wI n (53 + 4 * k + m) = 0 := by
  unfold wI
  rw [if_neg (by omega), if_neg (by omega), if_neg (by omega), if_neg (by omega)]
theorem wI_0 {n i : Nat} (hn : n ≤ 3) (h4 : i ≠ 4) (h5 : i ≠ 5) (hi : i < 14 ∨ (17 ≤ i ∧ i < 53) ∨ 133 ≤ i) : wI n i = 0 := by
  unfold wI
  rw [if_neg (by omega), if_neg (by omega), if_neg (by omega), if_neg (by omega)]
theorem wI_s {n : Nat} (hn : n < 3) : upd (upd (wI n) (14 + n) 40) 5 (upd (wI n) (14 + n) 40 5 + 40) = wI (n + 1) := by
  funext i
  by_cases e5 : i = 5
  · subst e5
    rw [upd_s, upd_n (by omega)]
    unfold wI
    rw [if_neg (by omega), if_pos rfl, if_neg (by omega), if_pos rfl]
    match n, hn with
    | 0, _ => rfl
    | 1, _ => rfl
    | 2, _ => rfl
  · rw [upd_n e5]
    by_cases e : i = 14 + n
    · subst e
      rw [upd_s]
      unfold wI
      rw [if_neg (by omega), if_neg (by omega), if_pos (by omega)]
    · rw [upd_n e]
      unfold wI
      by_cases e4 : i = 4
      · rw [if_pos e4, if_pos e4]
      · rw [if_neg e4, if_neg e4, if_neg e5, if_neg e5]
        by_cases e6 : 14 ≤ i ∧ i < 14 + n
        · rw [if_pos e6, if_pos (by omega)]
        · rw [if_neg e6, if_neg (show ¬ (14 ≤ i ∧ i < 14 + (n + 1)) by omega)]
theorem wI_d : fDp (wI 0) = fun _ => 0 := by
  funext b
  unfold fDp wI
  by_cases hb : b < 3
  · rw [if_pos hb, if_neg (by omega), if_neg (by omega), if_neg (by omega), if_neg (by omega)]
  · rw [if_neg hb]
theorem inj_up {n : Nat} {dom dom' : Nat → Bool} {ad : Nat → Nat} {q x : Nat} (hi : inj n dom ad) (hq : ∀ k, k < n → dom k = true → ad k ≠ q) (hd : ∀ k, k < n → dom' k = true → k ≠ x → dom k = true) : inj n dom' (upN ad x q) := by
  intro i j hi1 hj1 di dj e
  by_cases i1 : i = x
  · by_cases j1 : j = x
    · rw [i1, j1]
    · rw [i1, upN_s, upN_n j1] at e
      exact absurd e.symm (hq j hj1 (hd j hj1 dj j1))
  · by_cases j1 : j = x
    · rw [j1, upN_s, upN_n i1] at e
      exact absurd e (hq i hi1 (hd i hi1 di i1))
    · rw [upN_n i1, upN_n j1] at e
      exact hi i j hi1 hj1 (hd i hi1 di i1) (hd j hj1 dj j1) e
theorem inj_3 {n : Nat} {dom dom' : Nat → Bool} {ad : Nat → Nat} {x y z a b c : Nat} (hi : inj n dom ad) (ha : ∀ k, k < n → dom k = true → ad k ≠ a) (hb : ∀ k, k < n → dom k = true → ad k ≠ b) (hc : ∀ k, k < n → dom k = true → ad k ≠ c) (hab : a ≠ b) (hac : a ≠ c) (hbc : b ≠ c) (hd : ∀ k, k < n → dom' k = true → k ≠ x → k ≠ y → k ≠ z → dom k = true) : inj n dom' (upN (upN (upN ad x a) y b) z c) := by
  have h1 : inj n (fun k => dom k || decide (k = x)) (upN ad x a) := inj_up hi ha (fun k _ h e => by
    rcases Bool.or_eq_true _ _ ▸ h with h | h
    · exact h
    · exact absurd (of_decide_eq_true h) e)
  have g1 : ∀ k, (dom k || decide (k = x)) = true → k = x ∨ dom k = true := fun k h => by
    rcases Bool.or_eq_true _ _ ▸ h with h | h
    · exact Or.inr h
    · exact Or.inl (of_decide_eq_true h)
  have u1 : ∀ v, (∀ k, k < n → dom k = true → ad k ≠ v) → a ≠ v → ∀ k, k < n → (dom k || decide (k = x)) = true → upN ad x a k ≠ v := fun v hv hav k hk h => by
    by_cases e : k = x
    · rw [e, upN_s]; exact hav
    · rw [upN_n e]; exact hv k hk ((g1 k h).resolve_left e)
  have h2 : inj n (fun k => (dom k || decide (k = x)) || decide (k = y)) (upN (upN ad x a) y b) := inj_up h1 (u1 b hb hab) (fun k _ h e => by
    rcases Bool.or_eq_true _ _ ▸ h with h | h
    · exact h
    · exact absurd (of_decide_eq_true h) e)
  refine inj_up h2 (fun k hk h => ?_) (fun k hk h e => ?_)
  · by_cases e : k = y
    · rw [e, upN_s]; exact hbc
    · rw [upN_n e]
      rcases Bool.or_eq_true _ _ ▸ h with h | h
      · exact u1 c hc hac k hk h
      · exact absurd (of_decide_eq_true h) e
  · by_cases e1 : k = x
    · simp [e1]
    · by_cases e2 : k = y
      · simp [e2]
      · simp [hd k hk h e1 e2 e]
/-! the houses of a company that is being made -/
def idm (k j : Nat) : Bool := decide (j < 7 ∨ (10 ≤ j ∧ j < 10 + k) ∨ (30 ≤ j ∧ j < 30 + k) ∨ (50 ≤ j ∧ j < 50 + k))
theorem idm_e {k j : Nat} (h : idm k j = true) : j < 7 ∨ (10 ≤ j ∧ j < 10 + k) ∨ (30 ≤ j ∧ j < 30 + k) ∨ (50 ≤ j ∧ j < 50 + k) := of_decide_eq_true h
theorem idm_i {k j : Nat} (h : j < 7 ∨ (10 ≤ j ∧ j < 10 + k) ∨ (30 ≤ j ∧ j < 30 + k) ∨ (50 ≤ j ∧ j < 50 + k)) : idm k j = true := decide_eq_true h
def icell (ad : Nat → Nat) (k j : Nat) : Bd := if j = 1 then bO 10 [.int (nI k), .ref (ad 2), .int (nI k)] else if j = 2 then bR 3 20 (fHs ad k) else ccell ad (wI 0) j
theorem icell_1 {ad : Nat → Nat} {k : Nat} : icell ad k 1 = bO 10 [.int (nI k), .ref (ad 2), .int (nI k)] := if_pos rfl
theorem icell_2 {ad : Nat → Nat} {k : Nat} : icell ad k 2 = bR 3 20 (fHs ad k) := by
  unfold icell
  rw [if_neg (by decide), if_pos rfl]
theorem icell_o {ad : Nat → Nat} {k j : Nat} (h1 : j ≠ 1) (h2 : j ≠ 2) : icell ad k j = ccell ad (wI 0) j := by
  unfold icell
  rw [if_neg h1, if_neg h2]
def IP (H : HP) (ad : Nat → Nat) (k : Nat) : Prop := inj 160 (idm k) ad ∧ ∀ j, j < 160 → idm k j = true → H (ad j) = some (icell ad k j)
theorem wI_2 {n : Nat} (hn : n ≤ 3) : wI n 2 = 0 := wI_0 hn (by omega) (by omega) (by omega)
theorem wI_3 {n : Nat} (hn : n ≤ 3) : wI n 3 = 0 := wI_0 hn (by omega) (by omega) (by omega)
theorem tn_0 : tn 0 = 0 := rfl
theorem IP_step {H : HP} {ad : Nat → Nat} {k q kk m : Nat} (hk : k < 20) (hI : IP H ad k) (hq : H q = none) (hkk : H kk = none) (hm : H m = none) (e1 : m ≠ kk) (e2 : m ≠ q) (e3 : kk ≠ q) : ∃ ad' : Nat → Nat, (∀ j, j ≠ 10 + k → j ≠ 30 + k → j ≠ 50 + k → ad' j = ad j) ∧ ad' (10 + k) = q ∧ ad' (30 + k) = kk ∧ ad' (50 + k) = m ∧ IP (hu (hu (hu (hu (hu H m (bWd 0)) kk (bBs m 0)) q (bO 2 [.int (nI k), .int 5, .int (-15), .int 0, .ref kk])) (ad 2) (bR 3 20 (va_up (fHs ad k) k (some q)))) (ad 1) (bO 10 [.int (nI k + 1), .ref (ad 2), .int (nI k + 1)])) ad' (k + 1) := by
  obtain ⟨hi, hS⟩ := hI
  have fr : ∀ v, H v = none → ∀ j, j < 160 → idm k j = true → ad j ≠ v := fun v hv j hj hd e => by
    have := hS j hj hd
    rw [e, hv] at this
    cases this
  have d1 : idm k 1 = true := idm_i (by omega)
  have d2 : idm k 2 = true := idm_i (by omega)
  generalize hA : upN (upN (upN ad (10 + k) q) (30 + k) kk) (50 + k) m = ad'
  have ea : ∀ j, j ≠ 10 + k → j ≠ 30 + k → j ≠ 50 + k → ad' j = ad j := fun j h1 h2 h3 => by rw [← hA, upN_n h3, upN_n h2, upN_n h1]
  have a1 : ad' (10 + k) = q := by rw [← hA, upN_n (by omega), upN_n (by omega), upN_s]
  have a3 : ad' (30 + k) = kk := by rw [← hA, upN_n (by omega), upN_s]
  have a5 : ad' (50 + k) = m := by rw [← hA, upN_s]
  have hdd : ∀ j, j < 160 → idm (k + 1) j = true → j ≠ 10 + k → j ≠ 30 + k → j ≠ 50 + k → idm k j = true := fun j _ h h1 h2 h3 => idm_i (by have := idm_e h; omega)
  refine ⟨ad', ea, a1, a3, a5, by rw [← hA]; exact inj_3 hi (fr q hq) (fr kk hkk) (fr m hm) (Ne.symm e3) (Ne.symm e2) (Ne.symm e1) hdd, fun j hj hd => ?_⟩
  by_cases j1 : j = 10 + k
  · subst j1
    rw [a1, hu_n (Ne.symm (fr q hq 1 (by decide) d1)), hu_n (Ne.symm (fr q hq 2 (by decide) d2)), hu_s, icell_o (by omega) (by omega), cc_h hk, cHo, gDg, gMd, wI_t (by omega) hk, wI_z (by omega) hk (by omega), wI_z (by omega) hk (by omega), a3]
    rfl
  · by_cases j3 : j = 30 + k
    · subst j3
      rw [a3, hu_n (Ne.symm (fr kk hkk 1 (by decide) d1)), hu_n (Ne.symm (fr kk hkk 2 (by decide) d2)), hu_n e3, hu_s, icell_o (by omega) (by omega), cc_b hk, wI_z (by omega) hk (by omega), a5]
    · by_cases j5 : j = 50 + k
      · subst j5
        rw [a5, hu_n (Ne.symm (fr m hm 1 (by decide) d1)), hu_n (Ne.symm (fr m hm 2 (by decide) d2)), hu_n e2, hu_n e1, hu_s, icell_o (by omega) (by omega), cc_w hk, wI_z (by omega) hk (by omega)]
      · have dj := hdd j hj hd j1 j3 j5
        rw [ea j j1 j3 j5]
        by_cases k1 : j = 1
        · subst k1
          rw [hu_s, icell_1, ea 2 (by omega) (by omega) (by omega), nI_succ]
        · rw [hu_n (fun e => k1 (hi j 1 hj (by decide) dj d1 e))]
          by_cases k2 : j = 2
          · subst k2
            rw [hu_s, icell_2]
            congr 1
            congr 1
            congr 1
            congr 1
            congr 1
            congr 1
            funext p
            by_cases p1 : p = k
            · subst p1
              rw [va_up_s, fHs_at (Nat.lt_succ_self _), a1]
            · rw [va_up_n p1]
              unfold fHs
              by_cases p2 : p < k
              · rw [if_pos p2, if_pos (by omega), ea (10 + p) (by omega) (by omega) (by omega)]
              · rw [if_neg p2, if_neg (by omega)]
          · rw [hu_n (fun e => k2 (hi j 2 hj (by decide) dj d2 e)), hu_n (fr q hq j hj dj), hu_n (fr kk hkk j hj dj), hu_n (fr m hm j hj dj), hS j hj dj, icell_o k1 k2, icell_o k1 k2]
            have hje := idm_e dj
            refine congrArg some (ccell_ad hj (cdm_i (by omega)) (fun i hu => (ea i ?_ ?_ ?_).symm))
            · rintro rfl
              unfold cuse at hu
              rw [wI_2 (by omega), wI_3 (by omega), tn_0] at hu
              omega
            · rintro rfl
              unfold cuse at hu
              rw [wI_2 (by omega), wI_3 (by omega), tn_0] at hu
              omega
            · rintro rfl
              unfold cuse at hu
              rw [wI_2 (by omega), wI_3 (by omega), tn_0] at hu
              omega
theorem IP_St {H : HP} {ad : Nat → Nat} (hI : IP H ad 20) : St H ad (wI 0) ∧ cI ad (wI 0) := by
  have hdd : ∀ j, cdom (wI 0) j = true → idm 20 j = true := fun j h => idm_i (by
    have := cdm_e h
    rw [wI_2 (by omega), wI_3 (by omega), tn_0] at this
    omega)
  refine ⟨fun j hj hd => ?_, fun i j hi hj di dj e => hI.1 i j hi hj (hdd i di) (hdd j dj) e⟩
  rw [hI.2 j hj (hdd j hd)]
  by_cases j1 : j = 1
  · subst j1
    rw [icell_1, cc_1]
    rfl
  · by_cases j2 : j = 2
    · subst j2
      rw [icell_2, cc_2]
    · rw [icell_o j1 j2]
def ad7 (a0 a1 a2 a3 a4 a5 a6 : Nat) : Nat → Nat := fun j => match j with
  | 0 => a0
  | 1 => a1
  | 2 => a2
  | 3 => a3
  | 4 => a4
  | 5 => a5
  | _ => a6
theorem inj7 {a0 a1 a2 a3 a4 a5 a6 : Nat} (e01 : a0 ≠ a1) (e02 : a0 ≠ a2) (e03 : a0 ≠ a3) (e04 : a0 ≠ a4) (e05 : a0 ≠ a5) (e06 : a0 ≠ a6) (e12 : a1 ≠ a2) (e13 : a1 ≠ a3) (e14 : a1 ≠ a4) (e15 : a1 ≠ a5) (e16 : a1 ≠ a6) (e23 : a2 ≠ a3) (e24 : a2 ≠ a4) (e25 : a2 ≠ a5) (e26 : a2 ≠ a6) (e34 : a3 ≠ a4) (e35 : a3 ≠ a5) (e36 : a3 ≠ a6) (e45 : a4 ≠ a5) (e46 : a4 ≠ a6) (e56 : a5 ≠ a6) : inj 160 (idm 0) (ad7 a0 a1 a2 a3 a4 a5 a6) := by
  intro i j hi hj di dj e
  have hi7 := idm_e di
  have hj7 := idm_e dj
  rcases (show i = 0 ∨ i = 1 ∨ i = 2 ∨ i = 3 ∨ i = 4 ∨ i = 5 ∨ i = 6 by omega) with rfl | rfl | rfl | rfl | rfl | rfl | rfl <;> rcases (show j = 0 ∨ j = 1 ∨ j = 2 ∨ j = 3 ∨ j = 4 ∨ j = 5 ∨ j = 6 by omega) with rfl | rfl | rfl | rfl | rfl | rfl | rfl <;> first | rfl | exact absurd e (by assumption) | exact absurd e.symm (by assumption)
set_option maxHeartbeats 4000000 in
set_option maxRecDepth 100000 in
theorem lp_init2 {G : GG} {h : HP} {ad : Nat → Nat} (hi : cI ad (wI 0)) {Q : Oc → HP → Prop} (hQ : Q (.inl none) (cH ad (wI 3) h)) : ∀ (k n : Nat), n + k = 3 → V G 5 M_X1_init 85 [(1, .int (nI n)), (0, .ref (ad 0))] [] (cH ad (wI n) h) 0 Q := by
  intro k
  induction k with
  | zero =>
    intro n hn
    obtain rfl : n = 3 := by omega
    refine r_iload_n dX1_init_85 rfl ?_
    refine r_iconst (v := 3) dX1_init_86 rfl ?_
    refine r_icmp_ge 115 dX1_init_87 rfl (fun c87 => ?_) (fun c87 => absurd c87 (by decide))
    exact r_return dX1_init_115 rfl hQ
  | succ k ih =>
    intro n hn
    have hn3 : n < 3 := by omega
    have hix := nIn (show n < 1000 by omega)
    have i0 : cI ad (wI n) := cI_e hi (by rw [wI_2 (by omega), wI_2 (by omega)]) (by rw [wI_3 (by omega), wI_3 (by omega)])
    refine r_iload_n dX1_init_85 rfl ?_
    refine r_iconst (v := 3) dX1_init_86 rfl ?_
    refine r_icmp_ge 115 dX1_init_87 rfl (fun c87 => absurd c87 (by intro e; rw [Int32.le_iff_toInt_le, hix] at e; have h3 : (3 : Int32).toInt = 3 := rfl; omega)) (fun c87 => ?_)
    first | refine r_aload_n dX1_init_90 rfl ?_ | refine r_aload_nq dX1_init_90 rfl ?_ | refine r_aload_nN dX1_init_90 rfl ?_
    refine r_getfield 1 3 dX1_init_91 rfl (Nat.le_of_ble_eq_true rfl) (lkA q302) (Or.inl rfl) (Or.inl (c_0 i0)) (by rfl) ?_
    refine r_iload_n dX1_init_94 rfl ?_
    refine r_bipush (v := 40) dX1_init_95 rfl ?_
    refine r_iastore (n) dX1_init_97 (c_6 i0) hix hn3 ?_
    rw [cu_d i0 n hn3]
    have i1 : cI ad (upd (wI n) (14 + n) 40) := cI_u i0 (by omega) (by omega)
    first | refine r_aload_n dX1_init_98 rfl ?_ | refine r_aload_nq dX1_init_98 rfl ?_ | refine r_aload_nN dX1_init_98 rfl ?_
    refine r_dup dX1_init_99 rfl ?_
    refine r_getfield 1 10 dX1_init_100 rfl (Nat.le_of_ble_eq_true rfl) (lkA q316) (Or.inl rfl) (Or.inl (c_0 i1)) (by rfl) ?_
    refine r_bipush (v := 40) dX1_init_103 rfl ?_
    refine r_iadd dX1_init_105 ?_
    refine r_put 1 10 dX1_init_106 rfl (Nat.le_of_ble_eq_true rfl) (lkA q316) (Or.inl rfl) rfl (c_0 i1) (by dsimp only [List.set]) (Nat.le_of_ble_eq_true rfl) rfl rfl (cu_5 i1) ?_
    rw [wI_s hn3]
    refine r_inc 1 dX1_init_109 rfl rfl (Nat.le_of_ble_eq_true rfl) ?_
    refine r_goto 85 dX1_init_112 rfl ?_
    refine V_loc (L' := [(1, .int (nI n + 1)), (0, .ref (ad 0))]) ⟨rfl, rfl, trivial⟩ ?_
    rw [← nI_succ]
    exact ih (n + 1) (by omega)

set_option maxHeartbeats 4000000 in
set_option maxRecDepth 100000 in
theorem lp_init1 {G : GG} {h : HP} {a : Nat} : ∀ (k i : Nat) (H : HP) (ad : Nat → Nat), i + k = 20 → ad 0 = a → IP H ad i → (∀ j, 0 < j → j < 160 → idm i j = true → h (ad j) = none) → (∀ q b, q ≠ a → h q = some b → H q = some b) → V G 5 M_X1_init 55 [(1, .int (nI i)), (0, .ref a)] [] H (12 * k) (rQ (fun v h' => v = none ∧ ∃ ad : Nat → Nat, ad 0 = a ∧ cI ad (wI 3) ∧ (∀ j, 0 < j → j < 160 → cdom (wI 3) j = true → h (ad j) = none) ∧ St h' ad (wI 3) ∧ ∀ q b, q ≠ a → h q = some b → h' q = some b)) := by
  intro k
  induction k with
  | zero =>
    intro i H ad hk he hI hf hx
    obtain rfl : i = 20 := by omega
    refine r_iload_n dX1_init_55 rfl ?_
    refine r_bipush (v := 20) dX1_init_56 rfl ?_
    refine r_icmp_ge 83 dX1_init_58 rfl (fun c58 => ?_) (fun c58 => absurd c58 (by decide))
    refine r_iconst (v := 0) dX1_init_83 rfl ?_
    refine r_istore_n dX1_init_84 (Nat.le_of_ble_eq_true rfl) ?_
    obtain ⟨S0, i0⟩ := IP_St hI
    have na : ∀ q b, q ≠ a → h q = some b → cF ad (wI 0) q = none := fun q b hq hb => fam_none fun k hk hd e => by
      by_cases k0 : k = 0
      · rw [k0, he] at e; exact hq e.symm
      · have hd2 := cdm_e hd
        rw [wI_2 (by omega), wI_3 (by omega), tn_0] at hd2
        have := hf k (by omega) hk (idm_i (by omega))
        rw [e, hb] at this
        cases this
    have i3 : cI ad (wI 3) := cI_e i0 (by rw [wI_2 (by omega), wI_2 (by omega)]) (by rw [wI_3 (by omega), wI_3 (by omega)])
    rw [St_eq S0, ← he]
    refine V_loc (L' := [(1, .int (nI 0)), (0, .ref (ad 0))]) ⟨rfl, rfl, trivial⟩ ?_
    refine lp_init2 i0 ⟨rfl, ad, rfl, i3, fun j h0 hj hd => hf j h0 hj (idm_i ?_), St_cH i3, fun q b hq hb => ?_⟩ 3 0 (by omega)
    · have hd2 := cdm_e hd
      rw [wI_2 (by omega), wI_3 (by omega), tn_0] at hd2
      omega
    · have hq2 : q ≠ a := fun e => hq (e.trans he.symm)
      rw [cH, ov_n (cF_no (na q b hq2 hb) (by rw [wI_2 (by omega), wI_2 (by omega)]) (by rw [wI_3 (by omega), wI_3 (by omega)]))]
      exact hx q b hq2 hb
  | succ k ih =>
    intro i H ad hk he hI hf hx
    have hi2 : i < 20 := by omega
    have hix := nIn (show i < 1000 by omega)
    have ha0 : H a = some (cCo ad (wI 0)) := by rw [← he, hI.2 0 (by decide) (idm_i (by omega)), icell_o (by decide) (by decide), cc_0]
    refine r_iload_n dX1_init_55 rfl ?_
    refine r_bipush (v := 20) dX1_init_56 rfl ?_
    refine r_icmp_ge 83 dX1_init_58 rfl (fun c58 => absurd c58 (by intro e; rw [Int32.le_iff_toInt_le, hix] at e; have h3 : (20 : Int32).toInt = 20 := rfl; omega)) (fun c58 => ?_)
    first | refine r_aload_n dX1_init_61 rfl ?_ | refine r_aload_nq dX1_init_61 rfl ?_ | refine r_aload_nN dX1_init_61 rfl ?_
    refine r_getfield 1 0 dX1_init_62 rfl (Nat.le_of_ble_eq_true rfl) (lkA q296) (Or.inl rfl) (Or.inl ha0) (by rfl) ?_
    refine r_new 2 [.int 0, .int 0, .int 0, .int 0, .null] dX1_init_65 rfl (lkA q176) (lkA q177) (lkA q71) (fun j hj => match j, hj with | 0, _ => rfl | 1, _ => rfl | 2, _ => rfl | 3, _ => rfl | 4, _ => rfl | k + 5, hk => absurd hk (Nat.not_lt.mpr (Nat.le_add_left 5 k))) (by show 1 + 5 ≤ _; omega) (fun q65 hq65 => ?_)
    refine r_dup dX1_init_68 rfl ?_
    refine r_iload_n dX1_init_69 rfl ?_
    refine r_invI dX1_init_70 (sp_X2_init hu_s) rfl mo_X2_init (lkA q178) (lkA q179) rfl rfl rfl (lkA q71) mp_X2_init (Nat.le_of_ble_eq_true rfl) (by show 6 ≤ 12 * (k + 1) - (1 + 5); omega) (Nat.le_of_ble_eq_true rfl) (kr_r (fun v9 h9 p9 => ?_)) kx_r
    obtain ⟨rfl, kk, m, hkk, hm, emk, rfl⟩ := p9
    have ek := ov_none_hu hkk
    have em := ov_none_hu hm
    rw [hu_c (Ne.symm em.1), hu_c (Ne.symm ek.1), hu_hu]
    have hS0 : ∀ j, j < 160 → idm i j = true → ∀ X Y Z, hu (hu (hu H m X) kk Y) q65 Z (ad j) = some (icell ad i j) := fun j hj hd X Y Z => (hu_n (ne_o hq65 (hI.2 j hj hd))).trans ((hu_n (ne_o ek.2 (hI.2 j hj hd))).trans ((hu_n (ne_o em.2 (hI.2 j hj hd))).trans (hI.2 j hj hd)))
    have f1 : ∀ X Y Z, hu (hu (hu H m X) kk Y) q65 Z (ad 1) = some (bO 10 [.int (nI i), .ref (ad 2), .int (nI i)]) := fun X Y Z => (hS0 1 (by decide) (idm_i (by omega)) X Y Z).trans (congrArg some icell_1)
    have f2 : ∀ X Y Z, hu (hu (hu H m X) kk Y) q65 Z (ad 2) = some (bR 3 20 (fHs ad i)) := fun X Y Z => (hS0 2 (by decide) (idm_i (by omega)) X Y Z).trans (congrArg some icell_2)
    refine r_invV dX1_init_73 (sp_J2_add (f1 _ _ _) (f2 _ _ _) hix hi2 (by decide) hu_s rfl (Or.inr (lkT q2257 rfl)) (Ne.symm (ne_o hq65 (hI.2 1 (by decide) (idm_i (by omega)))))) rfl mo_J2_add (Or.inl (f1 _ _ _)) rfl (lkA q226) (lkA q227) (lkA q228) rfl (lkA q68) mp_J2_add (Nat.le_of_ble_eq_true rfl) (Nat.zero_le _) (Nat.le_of_ble_eq_true rfl) (kr_e ?_) kx_e
    refine r_pop dX1_init_76 rfl ?_
    refine r_inc 1 dX1_init_77 rfl rfl (Nat.le_of_ble_eq_true rfl) ?_
    refine r_goto 55 dX1_init_80 rfl ?_
    obtain ⟨ad', ea, a1, a3, a5, hI'⟩ := IP_step hi2 hI hq65 ek.2 em.2 emk em.1 ek.1
    have hh : ∀ v, H v = none → h v = none := fun v hv => by
      cases e : h v with
      | none => rfl
      | some b =>
        have hva : v ≠ a := fun e2 => by
          have := hI.2 0 (by decide) (idm_i (by omega))
          rw [he, ← e2, hv] at this
          cases this
        rw [hx v b hva e] at hv
        cases hv
    have fr : ∀ v, H v = none → ∀ j, j < 160 → idm i j = true → ad j ≠ v := fun v hv j hj hd e => by
      have := hI.2 j hj hd
      rw [e, hv] at this
      cases this
    refine V_loc (L' := [(1, .int (nI i + 1)), (0, .ref a)]) ⟨rfl, rfl, trivial⟩ ?_
    rw [← nI_succ]
    refine V.less (c' := 12 * k) ?_ (by dsimp only; omega)
    refine ih (i + 1) _ ad' (by omega) ((ea 0 (by omega) (by omega) (by omega)).trans he) (by rw [nI_succ]; exact hI') (fun j h0 hj hd => ?_) (fun q b hq hb => ?_)
    · by_cases j1 : j = 10 + i
      · rw [j1, a1]; exact hh _ hq65
      · by_cases j3 : j = 30 + i
        · rw [j3, a3]; exact hh _ ek.2
        · by_cases j5 : j = 50 + i
          · rw [j5, a5]; exact hh _ em.2
          · rw [ea j j1 j3 j5]
            exact hf j h0 hj (idm_i (by have := idm_e hd; omega))
    · have hb' := hx q b hq hb
      have n1 : q ≠ ad 1 := fun e => by
        have := hf 1 (by decide) (by decide) (idm_i (by omega))
        rw [← e, hb] at this
        cases this
      have n2 : q ≠ ad 2 := fun e => by
        have := hf 2 (by decide) (by decide) (idm_i (by omega))
        rw [← e, hb] at this
        cases this
      rw [hu_n n1, hu_n n2, hu_n (ne_o hq65 hb'), hu_n (ne_o ek.2 hb'), hu_n (ne_o em.2 hb')]
      exact hb'

set_option maxHeartbeats 4000000 in
set_option maxRecDepth 100000 in
theorem sp_X1_init {G : GG} {h : HP} {a : Nat} (ha : h a = some (bO 1 [.null, .null, .null, .null, .int 0, .int 0, .int 0, .int 0, .int 0, .int 0, .int 0, .int 0, .int 0, .int 0])) : Ct G 5 2300 M_X1_init [.ref a] h (rQ (fun v h' => v = none ∧ ∃ ad : Nat → Nat, ad 0 = a ∧ cI ad (wI 3) ∧ (∀ j, 0 < j → j < 160 → cdom (wI 3) j = true → h (ad j) = none) ∧ St h' ad (wI 3) ∧ ∀ q b, q ≠ a → h q = some b → h' q = some b)) := by
  refine ct_intro my_X1_init (Nat.le_of_ble_eq_true rfl) ?_
  first | refine r_aload_n dX1_init_0 rfl ?_ | refine r_aload_nq dX1_init_0 rfl ?_ | refine r_aload_nN dX1_init_0 rfl ?_
  refine r_objinit (w1 := .tt) dX1_init_1 (lkA q119) (lkA q112) (lkA q113) (Nat.le_of_ble_eq_true rfl) (Nat.le_of_ble_eq_true rfl) ?_
  first | refine r_aload_n dX1_init_4 rfl ?_ | refine r_aload_nq dX1_init_4 rfl ?_ | refine r_aload_nN dX1_init_4 rfl ?_
  refine r_new 10 [.int 0, .null, .int 0] dX1_init_5 rfl (lkA q120) (lkA q121) (lkA q68) (fun j hj => match j, hj with | 0, _ => rfl | 1, _ => rfl | 2, _ => rfl | k + 3, hk => absurd hk (Nat.not_lt.mpr (Nat.le_add_left 3 k))) (Nat.le_of_ble_eq_true rfl) (fun q5 hq5 => ?_)
  refine r_dup dX1_init_8 rfl ?_
  refine r_bipush (v := 20) dX1_init_9 rfl ?_
  refine r_invI dX1_init_11 (sp_J2_init 20 hu_s rfl (by decide) (by decide) rfl) rfl mo_J2_init (lkA q122) (lkA q123) rfl rfl rfl (lkA q68) mp_J2_init (Nat.le_of_ble_eq_true rfl) (Nat.le_of_ble_eq_true rfl) (Nat.le_of_ble_eq_true rfl) (kr_r (fun v9 h9 p9 => ?_)) kx_r
  obtain ⟨rfl, r5, hr5, er5, rfl⟩ := p9
  rw [hu_c (Ne.symm er5), hu_hu]
  have nr5 := (ov_none_hu hr5).2
  refine r_putF 1 0 dX1_init_14 rfl (Nat.le_of_ble_eq_true rfl) (lkA q296) rfl rfl rfl ((hu_n (ne_o hq5 ha)).trans ((hu_n (ne_o nr5 ha)).trans ha)) (by dsimp only [List.set]) (Nat.le_of_ble_eq_true rfl) rfl rfl (by first | exact hu_hu | exact rfl) ?_
  refine V_gen (fun H1 hH1 => ?_)
  obtain ⟨a1, b1, c1, F1⟩ := st2 hH1 hq5 nr5 er5 ha
  first | refine r_aload_n dX1_init_17 rfl ?_ | refine r_aload_nq dX1_init_17 rfl ?_ | refine r_aload_nN dX1_init_17 rfl ?_
  refine r_new 10 [.int 0, .null, .int 0] dX1_init_18 rfl (lkA q120) (lkA q121) (lkA q68) (fun j hj => match j, hj with | 0, _ => rfl | 1, _ => rfl | 2, _ => rfl | k + 3, hk => absurd hk (Nat.not_lt.mpr (Nat.le_add_left 3 k))) (Nat.le_of_ble_eq_true rfl) (fun q18 hq18 => ?_)
  refine r_dup dX1_init_21 rfl ?_
  refine r_iconst (v := 4) dX1_init_22 rfl ?_
  refine r_invI dX1_init_23 (sp_J2_init 4 hu_s rfl (by decide) (by decide) rfl) rfl mo_J2_init (lkA q122) (lkA q123) rfl rfl rfl (lkA q68) mp_J2_init (Nat.le_of_ble_eq_true rfl) (Nat.le_of_ble_eq_true rfl) (Nat.le_of_ble_eq_true rfl) (kr_r (fun v9 h9 p9 => ?_)) kx_r
  obtain ⟨rfl, r18, hr18, er18, rfl⟩ := p9
  rw [hu_c (Ne.symm er18), hu_hu]
  have nr18 := (ov_none_hu hr18).2
  refine r_putF 1 1 dX1_init_26 rfl (Nat.le_of_ble_eq_true rfl) (lkA q298) rfl rfl rfl ((hu_n (ne_o hq18 a1)).trans ((hu_n (ne_o nr18 a1)).trans a1)) (by dsimp only [List.set]) (Nat.le_of_ble_eq_true rfl) rfl rfl (by first | exact hu_hu | exact rfl) ?_
  refine V_gen (fun H2 hH2 => ?_)
  obtain ⟨a2, b2, c2, F2⟩ := st2 hH2 hq18 nr18 er18 a1
  first | refine r_aload_n dX1_init_29 rfl ?_ | refine r_aload_nq dX1_init_29 rfl ?_ | refine r_aload_nN dX1_init_29 rfl ?_
  refine r_new 11 [.int 0, .int 0, .null, .null] dX1_init_30 rfl (lkA q155) (lkA q156) (lkA q70) (fun j hj => match j, hj with | 0, _ => rfl | 1, _ => rfl | 2, _ => rfl | 3, _ => rfl | k + 4, hk => absurd hk (Nat.not_lt.mpr (Nat.le_add_left 4 k))) (Nat.le_of_ble_eq_true rfl) (fun q30 hq30 => ?_)
  refine r_dup dX1_init_33 rfl ?_
  refine r_invI dX1_init_34 (sp_J4_init hu_s) rfl mo_J4_init (lkA q157) (lkA q158) rfl rfl rfl (lkA q70) mp_J4_init (Nat.le_of_ble_eq_true rfl) (Nat.le_of_ble_eq_true rfl) (Nat.le_of_ble_eq_true rfl) (kr_e ?_) kx_e
  try simp only [hu_hu]
  refine r_putF 1 2 dX1_init_37 rfl (Nat.le_of_ble_eq_true rfl) (lkA q300) rfl rfl rfl ((hu_n (ne_o hq30 a2)).trans a2) (by dsimp only [List.set]) (Nat.le_of_ble_eq_true rfl) rfl rfl (by first | exact hu_hu | exact rfl) ?_
  refine V_gen (fun H3 hH3 => ?_)
  obtain ⟨a3, b3, F3⟩ := st1 hH3 hq30 a2
  first | refine r_aload_n dX1_init_40 rfl ?_ | refine r_aload_nq dX1_init_40 rfl ?_ | refine r_aload_nN dX1_init_40 rfl ?_
  refine r_iconst (v := 3) dX1_init_41 rfl ?_
  refine r_newaI 3 dX1_init_42 (lkA q205) rfl (Nat.le_of_ble_eq_true rfl) (Nat.le_of_ble_eq_true rfl) (fun q42 hq42 => ?_)
  refine r_putF 1 3 dX1_init_44 rfl (Nat.le_of_ble_eq_true rfl) (lkA q302) rfl rfl rfl ((hu_n (ne_o hq42 a3)).trans a3) (by dsimp only [List.set]) (Nat.le_of_ble_eq_true rfl) rfl rfl (by first | exact hu_hu | exact rfl) ?_
  refine V_gen (fun H4 hH4 => ?_)
  obtain ⟨a4, b4, F4⟩ := st1 hH4 hq42 a3
  first | refine r_aload_n dX1_init_47 rfl ?_ | refine r_aload_nq dX1_init_47 rfl ?_ | refine r_aload_nN dX1_init_47 rfl ?_
  refine r_bipush (v := 50) dX1_init_48 rfl ?_
  refine r_put 1 6 dX1_init_50 rfl (Nat.le_of_ble_eq_true rfl) (lkA q308) (Or.inl rfl) rfl a4 (by dsimp only [List.set]) (Nat.le_of_ble_eq_true rfl) rfl rfl (by first | exact hu_hu | exact rfl) ?_
  refine r_iconst (v := 0) dX1_init_53 rfl ?_
  refine r_istore_n dX1_init_54 (Nat.le_of_ble_eq_true rfl) ?_
  have q5a : q5 ≠ a := Ne.symm (ne_o hq5 ha)
  have r5a : r5 ≠ a := Ne.symm (ne_o nr5 ha)
  have q18a : q18 ≠ a := Ne.symm (ne_o hq18 a1)
  have r18a : r18 ≠ a := Ne.symm (ne_o nr18 a1)
  have q30a : q30 ≠ a := Ne.symm (ne_o hq30 a2)
  have q42a : q42 ≠ a := Ne.symm (ne_o hq42 a3)
  have up : ∀ (H0 : HP) (x : Nat), (∀ y b, y ≠ a → h y = some b → H0 y = some b) → H0 x = none → x ≠ a → h x = none := fun H0 x hF hx hxa => by
    cases e : h x with
    | none => rfl
    | some b => rw [hF x b hxa e] at hx; cases hx
  have G2 : ∀ y b, y ≠ a → h y = some b → H2 y = some b := fun y b e hb => F2 y b e (F1 y b e hb)
  have G3 : ∀ y b, y ≠ a → h y = some b → H3 y = some b := fun y b e hb => F3 y b e (G2 y b e hb)
  have G4 : ∀ y b, y ≠ a → h y = some b → H4 y = some b := fun y b e hb => F4 y b e (G3 y b e hb)
  refine V_gen (fun H5 hH5 => ?_)
  have a5 : H5 a = some (bO 1 [.ref q5, .ref q18, .ref q30, .ref q42, .int 0, .int 0, .int 50, .int 0, .int 0, .int 0, .int 0, .int 0, .int 0, .int 0]) := by rw [← hH5, hu_s]
  have F5 : ∀ y b, y ≠ a → H4 y = some b → H5 y = some b := fun y b e hb => by rw [← hH5, hu_n e]; exact hb
  have K1 : H5 q5 = _ := F5 _ _ q5a (F4 _ _ q5a (F3 _ _ q5a (F2 _ _ q5a b1)))
  have K2 : H5 r5 = _ := F5 _ _ r5a (F4 _ _ r5a (F3 _ _ r5a (F2 _ _ r5a c1)))
  have K3 : H5 q18 = _ := F5 _ _ q18a (F4 _ _ q18a (F3 _ _ q18a b2))
  have K4 : H5 r18 = _ := F5 _ _ r18a (F4 _ _ r18a (F3 _ _ r18a c2))
  have K5 : H5 q30 = _ := F5 _ _ q30a (F4 _ _ q30a b3)
  have K6 : H5 q42 = _ := F5 _ _ q42a b4
  have e13 : q5 ≠ q18 := ne_o hq18 b1
  have e14 : q5 ≠ r18 := ne_o nr18 b1
  have e15 : q5 ≠ q30 := ne_o hq30 (F2 _ _ q5a b1)
  have e16 : q5 ≠ q42 := ne_o hq42 (F3 _ _ q5a (F2 _ _ q5a b1))
  have e23 : r5 ≠ q18 := ne_o hq18 c1
  have e24 : r5 ≠ r18 := ne_o nr18 c1
  have e25 : r5 ≠ q30 := ne_o hq30 (F2 _ _ r5a c1)
  have e26 : r5 ≠ q42 := ne_o hq42 (F3 _ _ r5a (F2 _ _ r5a c1))
  have e35 : q18 ≠ q30 := ne_o hq30 b2
  have e36 : q18 ≠ q42 := ne_o hq42 (F3 _ _ q18a b2)
  have e45 : r18 ≠ q30 := ne_o hq30 c2
  have e46 : r18 ≠ q42 := ne_o hq42 (F3 _ _ r18a c2)
  have e56 : q30 ≠ q42 := ne_o hq42 b3
  have hI : IP H5 (ad7 a q5 r5 q18 r18 q30 q42) 0 := by
    refine ⟨inj7 (Ne.symm q5a) (Ne.symm r5a) (Ne.symm q18a) (Ne.symm r18a) (Ne.symm q30a) (Ne.symm q42a) (Ne.symm er5) e13 e14 e15 e16 e23 e24 e25 e26 (Ne.symm er18) e35 e36 e45 e46 e56, fun j hj hd => ?_⟩
    have hj7 := idm_e hd
    rcases (show j = 0 ∨ j = 1 ∨ j = 2 ∨ j = 3 ∨ j = 4 ∨ j = 5 ∨ j = 6 by omega) with rfl | rfl | rfl | rfl | rfl | rfl | rfl
    · rw [icell_o (by decide) (by decide), cc_0]
      exact a5
    · rw [icell_1]
      exact K1
    · rw [icell_2, show fHs (ad7 a q5 r5 q18 r18 q30 q42) 0 = fun _ => none from rfl]
      exact K2
    · rw [icell_o (by decide) (by decide), cc_3]
      exact K3
    · rw [icell_o (by decide) (by decide), cc_4, wI_2 (by decide), tn_0]
      exact K4
    · rw [icell_o (by decide) (by decide), cc_5, wI_3 (by decide), tn_0]
      exact K5
    · rw [icell_o (by decide) (by decide), cc_6, wI_d]
      exact K6
  refine V_loc (L' := [(1, .int (nI 0)), (0, .ref a)]) ⟨rfl, rfl, trivial⟩ ?_
  refine V.less (c' := 12 * 20) (lp_init1 (a := a) 20 0 H5 (ad7 a q5 r5 q18 r18 q30 q42) (by omega) rfl hI (fun j h0 hj hd => ?_) (fun q b hq hb => F5 q b hq (G4 q b hq hb))) (by decide)
  have hj7 := idm_e hd
  rcases (show j = 1 ∨ j = 2 ∨ j = 3 ∨ j = 4 ∨ j = 5 ∨ j = 6 by omega) with rfl | rfl | rfl | rfl | rfl | rfl
  · exact hq5
  · exact nr5
  · exact up H1 q18 F1 hq18 q18a
  · exact up H1 r18 F1 nr18 r18a
  · exact up H2 q30 G2 hq30 q30a
  · exact up H3 q42 G3 hq42 q42a

