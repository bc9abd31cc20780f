set_option maxRecDepth 100000
/-! ### a text read -/
def hereT (T : List Int32) (p : Nat) : Int32 := if p < T.length then T.getD p 0 else -11
def digB (c : Int32) : Bool := isn c 48 57
def pD (T : List Int32) : Nat → Int32 → Nat → Nat × Int32
  | 0, v, p => (p, v)
  | n + 1, v, p => if digB (hereT T p) = true then pD T n (10 * v + hereT T p - 48) (p + 1) else (p, v)
def pN (T : List Int32) (m p : Nat) : Nat × Option Int32 := if digB (hereT T p) = true then ((pD T m 0 p).1, some (pD T m 0 p).2) else (p, none)
/-- a number behind a sign -/
def pB (T : List Int32) (c : Int32) (m p : Nat) : Nat × Option Int32 := if hereT T p = c then pN T m (p + 1) else (p, none)
def pNeg (b : Nat × Option Int32) : Nat × Option Int32 := (b.1, b.2.map (fun x => -x))
/-- a number with its sign -/
def pS (T : List Int32) (p : Nat) : Nat × Option Int32 := if hereT T p = 45 then pNeg (pN T 2 (p + 1)) else if hereT T p = 43 then pN T 2 (p + 1) else (p, none)
/-- letters, one by one -/
def pX (T l : List Int32) : Nat → Nat → Nat → Nat × Bool
  | 0, _, p => (p, true)
  | n + 1, i, p => if hereT T p = l.getD i 0 then pX T l n (i + 1) (p + 1) else (p, false)
def fK (c : Int32) : Option Nat := if c = 103 then some 0 else if c = 114 then some 1 else if c = 112 then some 2 else if c = 116 then some 3 else if c = 98 then some 4 else if c = 115 then some 5 else if c = 100 then some 6 else none
def pW (T : List Int32) (p : Nat) : Nat × Option Nat := match fK (hereT T p) with
  | none => (p, none)
  | some k => ((pX T (kch k) (kch k).length 0 p).1, if (pX T (kch k) (kch k).length 0 p).2 = true then some k else none)
def pb {α β : Type} (x : Nat × Option α) (f : Nat → α → Nat × Option β) : Nat × Option β := match x.2 with
  | none => (x.1, none)
  | some a => f x.1 a
abbrev Ord1 : Type := Nat × Int32 × Int32 × Int32
def pA (T : List Int32) (k p : Nat) : Nat × Option Ord1 := match k with
  | 0 => pb (pN T 1 p) fun p a => pb (pB T 62 2 p) fun p b => (p, some (0, a, b, 0))
  | 1 => pb (pN T 1 p) fun p a => pb (pB T 32 1 p) fun p b => pb (pB T 61 2 p) fun p c => (p, some (1, a, b, c))
  | 2 => pb (pN T 1 p) fun p a => (p, some (2, a, 0, 0))
  | 3 => pb (pN T 1 p) fun p a => pb (pB T 32 1 p) fun p b => pb (pS T p) fun p c => (p, some (3, a, b, c))
  | 4 => pb (pN T 2 p) fun p a => (p, some (4, a, 0, 0))
  | 5 => pb (pN T 1 p) fun p a => (p, some (5, a, 0, 0))
  | _ => (p, some (6, 0, 0, 0))
def pO (T : List Int32) (p : Nat) : Nat × Option Ord1 := pb (pW T p) fun p k => pA T k p
/-- all the orders -/
def pR (T : List Int32) : Nat → Nat → Nat × Option (List Ord1)
  | 0, p => (p, none)
  | n + 1, p => pb (pO T p) fun p1 a => if hereT T p1 = 59 then pb (pR T n (p1 + 1)) fun p2 os => (p2, some (a :: os)) else if p1 = T.length then (p1, some [a]) else (p1, none)
theorem here_lt {T : List Int32} {p : Nat} (h : 0 ≤ (hereT T p).toInt) : p < T.length := by
  by_cases e : p < T.length
  · exact e
  · unfold hereT at h
    rw [if_neg e] at h
    exact absurd h (by decide)
theorem here_e {T : List Int32} {p : Nat} {c : Int32} (h : hereT T p = c) (hc : 0 ≤ c.toInt) : p < T.length := here_lt (by rw [h]; exact hc)
theorem here_d {T : List Int32} {p : Nat} (h : digB (hereT T p) = true) : p < T.length := by
  have := isn_t.mp h
  have h3 : (48 : Int32).toInt = 48 := rfl
  exact here_lt (by omega)
theorem pD_le {T : List Int32} : ∀ (n : Nat) (v : Int32) (p : Nat), p ≤ T.length → p ≤ (pD T n v p).1 ∧ (pD T n v p).1 ≤ T.length := by
  intro n
  induction n with
  | zero => intro v p h; exact ⟨Nat.le_refl p, h⟩
  | succ n ih =>
    intro v p h
    show _ ≤ (if _ then _ else _ : Nat × Int32).1 ∧ (if _ then _ else _ : Nat × Int32).1 ≤ _
    by_cases e : digB (hereT T p) = true
    · rw [if_pos e]
      have := ih (10 * v + hereT T p - 48) (p + 1) (here_d e)
      exact ⟨by omega, this.2⟩
    · rw [if_neg e]
      exact ⟨Nat.le_refl p, h⟩
theorem pN_le {T : List Int32} {m p : Nat} (h : p ≤ T.length) : p ≤ (pN T m p).1 ∧ (pN T m p).1 ≤ T.length := by
  unfold pN
  by_cases e : digB (hereT T p) = true
  · rw [if_pos e]; exact pD_le m 0 p h
  · rw [if_neg e]; exact ⟨Nat.le_refl p, h⟩
theorem pB_le {T : List Int32} {c : Int32} {m p : Nat} (hc : 0 ≤ c.toInt) (h : p ≤ T.length) : p ≤ (pB T c m p).1 ∧ (pB T c m p).1 ≤ T.length := by
  unfold pB
  by_cases e : hereT T p = c
  · rw [if_pos e]
    have := pN_le (p := p + 1) (m := m) (here_e e hc)
    exact ⟨by omega, this.2⟩
  · rw [if_neg e]; exact ⟨Nat.le_refl p, h⟩
theorem pS_le {T : List Int32} {p : Nat} (h : p ≤ T.length) : p ≤ (pS T p).1 ∧ (pS T p).1 ≤ T.length := by
  unfold pS
  by_cases e : hereT T p = 45
  · rw [if_pos e]
    have := pN_le (p := p + 1) (m := 2) (here_e e (by decide))
    exact ⟨by show p ≤ (pN T 2 (p + 1)).1; omega, this.2⟩
  · rw [if_neg e]
    by_cases e2 : hereT T p = 43
    · rw [if_pos e2]
      have := pN_le (p := p + 1) (m := 2) (here_e e2 (by decide))
      exact ⟨by omega, this.2⟩
    · rw [if_neg e2]; exact ⟨Nat.le_refl p, h⟩
theorem pX_le {T l : List Int32} (hl : ∀ j, j < l.length → asc (l.getD j 0)) : ∀ (n i p : Nat), i + n = l.length → p ≤ T.length → p ≤ (pX T l n i p).1 ∧ (pX T l n i p).1 ≤ T.length := by
  intro n
  induction n with
  | zero => intro i p _ h; exact ⟨Nat.le_refl p, h⟩
  | succ n ih =>
    intro i p hi h
    show _ ≤ (if _ then _ else _ : Nat × Bool).1 ∧ (if _ then _ else _ : Nat × Bool).1 ≤ _
    by_cases e : hereT T p = l.getD i 0
    · rw [if_pos e]
      have := ih (i + 1) (p + 1) (by omega) (here_e e (hl i (by omega)).1)
      exact ⟨by omega, this.2⟩
    · rw [if_neg e]
      exact ⟨Nat.le_refl p, h⟩
theorem fK_k : ∀ k, k < 7 → fK ((kch k).getD 0 0) = some k := by
  intro k hk
  exact of_decide_eq_true (allB_at (n := 7) (p := fun k => decide (fK ((kch k).getD 0 0) = some k)) (by decide +kernel) k hk)
theorem fK_i {c : Int32} {k : Nat} (h : fK c = some k) : k < 7 ∧ c = (kch k).getD 0 0 := by
  unfold fK at h
  by_cases e0 : c = 103
  · rw [if_pos e0] at h; rw [← Option.some.inj h, e0]; exact ⟨by decide, rfl⟩
  rw [if_neg e0] at h
  by_cases e1 : c = 114
  · rw [if_pos e1] at h; rw [← Option.some.inj h, e1]; exact ⟨by decide, rfl⟩
  rw [if_neg e1] at h
  by_cases e2 : c = 112
  · rw [if_pos e2] at h; rw [← Option.some.inj h, e2]; exact ⟨by decide, rfl⟩
  rw [if_neg e2] at h
  by_cases e3 : c = 116
  · rw [if_pos e3] at h; rw [← Option.some.inj h, e3]; exact ⟨by decide, rfl⟩
  rw [if_neg e3] at h
  by_cases e4 : c = 98
  · rw [if_pos e4] at h; rw [← Option.some.inj h, e4]; exact ⟨by decide, rfl⟩
  rw [if_neg e4] at h
  by_cases e5 : c = 115
  · rw [if_pos e5] at h; rw [← Option.some.inj h, e5]; exact ⟨by decide, rfl⟩
  rw [if_neg e5] at h
  by_cases e6 : c = 100
  · rw [if_pos e6] at h; rw [← Option.some.inj h, e6]; exact ⟨by decide, rfl⟩
  rw [if_neg e6] at h
  cases h
theorem kch_as {k : Nat} (hk : k < 20) : ∀ j, j < (kch k).length → asc ((kch k).getD j 0) := fun j hj => kch_a k hk j (by have := kch_l k hk; omega) hj
theorem pW_le {T : List Int32} {p : Nat} (h : p ≤ T.length) : p ≤ (pW T p).1 ∧ (pW T p).1 ≤ T.length := by
  unfold pW
  cases e : fK (hereT T p) with
  | none => exact ⟨Nat.le_refl p, h⟩
  | some k => exact pX_le (kch_as (by have := (fK_i e).1; omega)) _ 0 p (by omega) h
theorem pb_le {α β : Type} {L p : Nat} {x : Nat × Option α} {f : Nat → α → Nat × Option β} (hx : p ≤ x.1 ∧ x.1 ≤ L) (hf : ∀ q a, p ≤ q → q ≤ L → q ≤ (f q a).1 ∧ (f q a).1 ≤ L) : p ≤ (pb x f).1 ∧ (pb x f).1 ≤ L := by
  unfold pb
  cases x.2 with
  | none => exact hx
  | some a =>
    have := hf x.1 a hx.1 hx.2
    exact ⟨Nat.le_trans hx.1 this.1, this.2⟩
theorem pA_le {T : List Int32} {k p : Nat} (h : p ≤ T.length) : p ≤ (pA T k p).1 ∧ (pA T k p).1 ≤ T.length := by
  have fin : ∀ (r : Ord1) (q : Nat), q ≤ T.length → q ≤ ((q, some r) : Nat × Option Ord1).1 ∧ ((q, some r) : Nat × Option Ord1).1 ≤ T.length := fun r q hq => ⟨Nat.le_refl q, hq⟩
  match k with
  | 0 => exact pb_le (pN_le h) fun q a _ hq => pb_le (pB_le (by decide) hq) fun q2 b _ hq2 => fin _ q2 hq2
  | 1 => exact pb_le (pN_le h) fun q a _ hq => pb_le (pB_le (by decide) hq) fun q2 b _ hq2 => pb_le (pB_le (by decide) hq2) fun q3 c _ hq3 => fin _ q3 hq3
  | 2 => exact pb_le (pN_le h) fun q a _ hq => fin _ q hq
  | 3 => exact pb_le (pN_le h) fun q a _ hq => pb_le (pB_le (by decide) hq) fun q2 b _ hq2 => pb_le (pS_le hq2) fun q3 c _ hq3 => fin _ q3 hq3
  | 4 => exact pb_le (pN_le h) fun q a _ hq => fin _ q hq
  | 5 => exact pb_le (pN_le h) fun q a _ hq => fin _ q hq
  | n + 6 => exact fin _ p h
theorem pO_le {T : List Int32} {p : Nat} (h : p ≤ T.length) : p ≤ (pO T p).1 ∧ (pO T p).1 ≤ T.length := pb_le (pW_le h) fun q k _ hq => pA_le hq
/-! ### the reader -/
abbrev bRd (wa tx p : Nat) : Bd := bO 8 [.ref wa, .ref tx, .int (nI p)]
abbrev RH (h : HP) (rd wa tx p : Nat) : HP := hu h rd (bRd wa tx p)
def fWds (ka : Nat → Nat) : Nat → Option Nat := fun j => if j < 7 then some (ka j) else none
/-- a Wrong on its way -/
def wrE (h : HP) (rd wa tx p q : Nat) (h' : HP) : Prop := ∃ h2, Ext h h2 ∧ h2 rd = none ∧ h2 q = some (bWro (nI p)) ∧ h' = RH h2 rd wa tx p
def pbQ (h : HP) (rd wa tx : Nat) (b : Nat × Option Int32) : Oc → HP → Prop := fun o h' => match o with
  | .inl v => ∃ x, b.2 = some x ∧ v = some (.int x) ∧ h' = RH h rd wa tx b.1
  | .inr q => b.2 = none ∧ wrE h rd wa tx b.1 q h'
theorem wr_mk {h h' : HP} {rd wa tx p q : Nat} {P : Prop} (hrd : h rd = none) (hp : P ∧ RH h rd wa tx p q = none ∧ h' = hu (RH h rd wa tx p) q (bWro (nI p))) : wrE h rd wa tx p q h' := by
  obtain ⟨-, h1, rfl⟩ := hp
  obtain ⟨e1, e2⟩ := ov_none_hu h1
  exact ⟨hu h q (bWro (nI p)), Ext.new e2, by rw [hu_n (Ne.symm e1)]; exact hrd, hu_s, (hu_c (Ne.symm e1))⟩
theorem wr_ob {h h' : HP} {rd wa tx p q : Nat} (hw : wrE h rd wa tx p q h') : ∃ ci fs, h' q = some (bO ci fs) := by
  obtain ⟨h2, _, h3, h4, rfl⟩ := hw
  exact ⟨_, _, (hu_n (fun e => by rw [e, h3] at h4; cases h4)).trans h4⟩
theorem wr_x {h0 h h' : HP} {rd wa tx p q : Nat} (hw : wrE h rd wa tx p q h') (hx : Ext h0 h) : wrE h0 rd wa tx p q h' := by
  obtain ⟨h2, h1, h3⟩ := hw
  exact ⟨h2, hx.tr h1, h3⟩

set_option maxHeartbeats 4000000 in
set_option maxRecDepth 100000 in
theorem sp_X8_here {G : GG} {h : HP} (hT : KT G) {ka : Nat → Nat} (hKC : KC G ka) {rd wa tx r N p : Nat} {T : List Int32} (hrd : h rd = none) (hw : h wa = some (bR 4 7 (fWds ka))) (hS : SB h tx r N T) (hl : T.length ≤ 60) (hp : p ≤ T.length)  : Ct G 4 0 M_X8_here [.ref rd] (RH h rd wa tx p) (eQ (some (.int (hereT T p))) (RH h rd wa tx p)) := by
  refine ct_intro my_X8_here (Nat.le_of_ble_eq_true rfl) ?_
  have hS1 := SB_o (b := bRd wa tx p) hS hrd
  have htx := hS1.choose_spec.choose_spec.1
  first | refine r_aload_n dX8_here_0 rfl ?_ | refine r_aload_nq dX8_here_0 rfl ?_ | refine r_aload_nN dX8_here_0 rfl ?_
  refine r_getfield 8 2 dX8_here_1 rfl (Nat.le_of_ble_eq_true rfl) (lkA q1472) (Or.inl rfl) (Or.inl hu_s) (by rfl) ?_
  first | refine r_aload_n dX8_here_4 rfl ?_ | refine r_aload_nq dX8_here_4 rfl ?_ | refine r_aload_nN dX8_here_4 rfl ?_
  refine r_getfield 8 1 dX8_here_5 rfl (Nat.le_of_ble_eq_true rfl) (lkA q1471) (Or.inl rfl) (Or.inl hu_s) (by rfl) ?_
  refine r_invF dX8_here_8 (sp_J11_length hS1) rfl mo_J11_length (Or.inl htx) rfl (lkA q1501) ⟨q1503, q1502, q1511, q1510, q1508⟩ ⟨by decide +kernel, by decide +kernel⟩ (lkA q1509) (lkA q786) rfl (show _ = some 0 from by decide +kernel) (lkA q79) mp_J11_length (Nat.le_of_ble_eq_true rfl) (Nat.le_of_ble_eq_true rfl) (Nat.le_of_ble_eq_true rfl) (kr_e ?_) kx_e
  refine r_icmp_ge 32 dX8_here_13 rfl (fun c13 => ?_) (fun c13 => ?_)
  · refine r_bipush (v := (-11)) dX8_here_32 rfl ?_
    exact r_ireturn dX8_here_34 rfl rfl ⟨congrArg (fun z => some (Value.int z)) (by unfold hereT; rw [if_neg (Nat.not_lt.mpr ((nJ_le (by omega) (by omega)).mp c13))]), rfl⟩
  · first | refine r_aload_n dX8_here_16 rfl ?_ | refine r_aload_nq dX8_here_16 rfl ?_ | refine r_aload_nN dX8_here_16 rfl ?_
    refine r_getfield 8 1 dX8_here_17 rfl (Nat.le_of_ble_eq_true rfl) (lkA q1471) (Or.inl rfl) (Or.inl hu_s) (by rfl) ?_
    first | refine r_aload_n dX8_here_20 rfl ?_ | refine r_aload_nq dX8_here_20 rfl ?_ | refine r_aload_nN dX8_here_20 rfl ?_
    refine r_getfield 8 2 dX8_here_21 rfl (Nat.le_of_ble_eq_true rfl) (lkA q1472) (Or.inl rfl) (Or.inl hu_s) (by rfl) ?_
    refine r_invF dX8_here_24 (sp_J11_charAt hT hS1 (j := p) (nIn (by omega)) (Nat.lt_of_not_le (fun e => c13 ((nJ_le (by omega) (by omega)).mpr e)))) rfl mo_J11_charAt (Or.inl htx) rfl (lkA q1513) ⟨q1515, q1514, q1535, q1533, q1508⟩ ⟨by decide +kernel, by decide +kernel⟩ (lkA q1532) (lkA q1534) rfl (show _ = some 1 from by decide +kernel) (lkA q79) mp_J11_charAt (Nat.le_of_ble_eq_true rfl) (Nat.le_of_ble_eq_true rfl) (Nat.le_of_ble_eq_true rfl) (kr_e ?_) kx_e
    refine r_goto 34 dX8_here_29 rfl ?_
    exact r_ireturn dX8_here_34 rfl (by first | rfl | exact bi_nar) ⟨congrArg (fun z => some (Value.int z)) (by unfold hereT; rw [if_pos (Nat.lt_of_not_le (fun e => c13 ((nJ_le (by omega) (by omega)).mpr e)))]), rfl⟩

set_option maxHeartbeats 4000000 in
set_option maxRecDepth 100000 in
theorem sp_X8_takes {G : GG} {h : HP} (hT : KT G) {ka : Nat → Nat} (hKC : KC G ka) {rd wa tx r N p : Nat} {T : List Int32} (hrd : h rd = none) (hw : h wa = some (bR 4 7 (fWds ka))) (hS : SB h tx r N T) (hl : T.length ≤ 60) (hp : p ≤ T.length) {x : Int32} : Ct G 5 0 M_X8_takes [.ref rd, .int x] (RH h rd wa tx p) (eQ (some (.int (bi (decide (hereT T p = x))))) (RH h rd wa tx (if hereT T p = x then p + 1 else p))) := by
  refine ct_intro my_X8_takes (Nat.le_of_ble_eq_true rfl) ?_
  have hS1 := SB_o (b := bRd wa tx p) hS hrd
  have htx := hS1.choose_spec.choose_spec.1
  first | refine r_aload_n dX8_takes_0 rfl ?_ | refine r_aload_nq dX8_takes_0 rfl ?_ | refine r_aload_nN dX8_takes_0 rfl ?_
  refine r_invV dX8_takes_1 (sp_X8_here hT hKC hrd hw hS hl  hp) rfl mo_X8_here (Or.inl hu_s) rfl (lkA q1496) (lkA q1498) (lkA qs23) rfl (lkA q103) mp_X8_here (Nat.le_of_ble_eq_true rfl) (Nat.le_of_ble_eq_true rfl) (Nat.le_of_ble_eq_true rfl) (kr_e ?_) kx_e
  refine r_iload_n dX8_takes_4 rfl ?_
  refine r_icmp_ne 12 dX8_takes_5 rfl (fun c5 => ?_) (fun c5 => ?_)
  · refine r_iconst (v := 0) dX8_takes_12 rfl ?_
    refine r_istore_n dX8_takes_13 (Nat.le_of_ble_eq_true rfl) ?_
    first | refine r_aload_n dX8_takes_14 rfl ?_ | refine r_aload_nq dX8_takes_14 rfl ?_ | refine r_aload_nN dX8_takes_14 rfl ?_
    refine r_dup dX8_takes_15 rfl ?_
    refine r_getfield 8 2 dX8_takes_16 rfl (Nat.le_of_ble_eq_true rfl) (lkA q1472) (Or.inl rfl) (Or.inl hu_s) (by rfl) ?_
    refine r_iload_n dX8_takes_19 rfl ?_
    refine r_if_eq 27 dX8_takes_20 rfl (fun c20 => ?_) (fun c20 => absurd c20 (fun e => e rfl))
    refine r_iconst (v := 0) dX8_takes_27 rfl ?_
    refine r_iadd dX8_takes_28 ?_
    refine r_put 8 2 dX8_takes_29 rfl (Nat.le_of_ble_eq_true rfl) (lkA q1472) (Or.inl rfl) rfl hu_s (by dsimp only [List.set]) (Nat.le_of_ble_eq_true rfl) rfl rfl (by rw [hu_hu, Int32.add_zero]) ?_
    refine r_iload_n dX8_takes_32 rfl ?_
    exact r_ireturn dX8_takes_33 rfl rfl ⟨congrArg (fun z => some (Value.int z)) (by rw [decide_eq_false c5]; rfl), by rw [if_neg c5]⟩
  · refine r_iconst (v := 1) dX8_takes_8 rfl ?_
    refine r_goto 13 dX8_takes_9 rfl ?_
    refine r_istore_n dX8_takes_13 (Nat.le_of_ble_eq_true rfl) ?_
    first | refine r_aload_n dX8_takes_14 rfl ?_ | refine r_aload_nq dX8_takes_14 rfl ?_ | refine r_aload_nN dX8_takes_14 rfl ?_
    refine r_dup dX8_takes_15 rfl ?_
    refine r_getfield 8 2 dX8_takes_16 rfl (Nat.le_of_ble_eq_true rfl) (lkA q1472) (Or.inl rfl) (Or.inl hu_s) (by rfl) ?_
    refine r_iload_n dX8_takes_19 rfl ?_
    refine r_if_eq 27 dX8_takes_20 rfl (fun c20 => absurd c20 (by decide)) (fun c20 => ?_)
    refine r_iconst (v := 1) dX8_takes_23 rfl ?_
    refine r_goto 28 dX8_takes_24 rfl ?_
    refine r_iadd dX8_takes_28 ?_
    refine r_put 8 2 dX8_takes_29 rfl (Nat.le_of_ble_eq_true rfl) (lkA q1472) (Or.inl rfl) rfl hu_s (by dsimp only [List.set]) (Nat.le_of_ble_eq_true rfl) rfl rfl (by rw [hu_hu, ← nI_succ]) ?_
    refine r_iload_n dX8_takes_32 rfl ?_
    exact r_ireturn dX8_takes_33 rfl rfl ⟨congrArg (fun z => some (Value.int z)) (by rw [decide_eq_true c5]; rfl), by rw [if_pos c5]⟩

set_option maxHeartbeats 4000000 in
set_option maxRecDepth 100000 in
theorem sp_X8_needs {G : GG} {h : HP} (hT : KT G) {ka : Nat → Nat} (hKC : KC G ka) {rd wa tx r N p : Nat} {T : List Int32} (hrd : h rd = none) (hw : h wa = some (bR 4 7 (fWds ka))) (hS : SB h tx r N T) (hl : T.length ≤ 60) (hp : p ≤ T.length) {x : Int32} : Ct G 5 8 M_X8_needs [.ref rd, .int x] (RH h rd wa tx p) (tfQ (x = 0) (bWro (nI p)) (RH h rd wa tx p)) := by
  refine ct_intro my_X8_needs (Nat.le_of_ble_eq_true rfl) ?_
  have hS1 := SB_o (b := bRd wa tx p) hS hrd
  have htx := hS1.choose_spec.choose_spec.1
  refine r_iload_n dX8_needs_0 rfl ?_
  refine r_if_ne 16 dX8_needs_1 rfl (fun c1 => ?_) (fun c1 => ?_)
  · exact r_return dX8_needs_16 rfl ⟨c1, rfl, rfl⟩
  · refine r_new 7 [.null, .null, .null, .null, .null, .int 0, .int 0] dX8_needs_4 rfl (lkA q1553) (lkA q1554) (lkA q105) (fun j hj => match j, hj with | 0, _ => rfl | 1, _ => rfl | 2, _ => rfl | 3, _ => rfl | 4, _ => rfl | 5, _ => rfl | 6, _ => rfl | k + 7, hk => absurd hk (Nat.not_lt.mpr (Nat.le_add_left 7 k))) (Nat.le_of_ble_eq_true rfl) (fun q4 hq4 => ?_)
    refine r_dup dX8_needs_7 rfl ?_
    first | refine r_aload_n dX8_needs_8 rfl ?_ | refine r_aload_nq dX8_needs_8 rfl ?_ | refine r_aload_nN dX8_needs_8 rfl ?_
    refine r_getfield 8 2 dX8_needs_9 rfl (Nat.le_of_ble_eq_true rfl) (lkA q1472) (Or.inl rfl) (Or.inl (hu_o hq4 hu_s)) (by rfl) ?_
    refine r_invI dX8_needs_12 (sp_X10_init hT.1 hu_s) rfl mo_X10_init (lkA q1562) (lkA q1563) rfl rfl rfl (lkA q105) mp_X10_init (Nat.le_of_ble_eq_true rfl) (Nat.le_of_ble_eq_true rfl) (Nat.le_of_ble_eq_true rfl) (kr_e ?_) kx_e
    try simp only [hu_hu]
    refine r_athrow dX8_needs_15 ?_
    exact r_out hu_s rfl ⟨c1, hq4, rfl⟩

set_option maxHeartbeats 4000000 in
set_option maxRecDepth 100000 in
theorem lp_number {G : GG} {h : HP} (hT : KT G) {ka : Nat → Nat} (hKC : KC G ka) {rd wa tx r N : Nat} {T : List Int32} (hrd : h rd = none) (hw : h wa = some (bR 4 7 (fWds ka))) (hS : SB h tx r N T) (hl : T.length ≤ 60) {x : Int32} {m : Nat} (hx : x.toInt = (m : Int)) (hm : m < 100) (r9 : Nat × Int32) : ∀ (n k : Nat) (v : Int32) (p : Nat), k + n = m → p ≤ T.length → r9 = pD T n v p → V G 6 M_X8_number 19 [(3, .int (nI k)), (2, .int (v)), (1, .int x), (0, .ref rd)] [] (RH h rd wa tx p) 0 (pbQ h rd wa tx (r9.1, some r9.2)) := by
  intro n
  induction n with
  | zero =>
    intro k v p hk hp hr
    have hS1 := SB_o (b := bRd wa tx p) hS hrd
    refine r_iload_n dX8_number_19 rfl ?_
    refine r_iload_n dX8_number_20 rfl ?_
    refine r_icmp_ge 67 dX8_number_21 rfl (fun c21 => ?_) (fun c21 => absurd c21 (fun e => e (by rw [Int32.le_iff_toInt_le, hx, nIn (by omega)]; omega)))
    refine r_iload_n dX8_number_67 rfl ?_
    exact r_ireturn dX8_number_68 rfl rfl ⟨v, by rw [hr]; rfl, rfl, by rw [hr]; rfl⟩
  | succ n ih =>
    intro k v p hk hp hr
    have hS1 := SB_o (b := bRd wa tx p) hS hrd
    have hr : r9 = if digB (hereT T p) = true then pD T n (10 * v + hereT T p - 48) (p + 1) else (p, v) := hr
    refine r_iload_n dX8_number_19 rfl ?_
    refine r_iload_n dX8_number_20 rfl ?_
    refine r_icmp_ge 67 dX8_number_21 rfl (fun c21 => absurd c21 (by rw [Int32.le_iff_toInt_le, hx, nIn (by omega)]; omega)) (fun c21 => ?_)
    first | refine r_aload_n dX8_number_24 rfl ?_ | refine r_aload_nq dX8_number_24 rfl ?_ | refine r_aload_nN dX8_number_24 rfl ?_
    refine r_invV dX8_number_25 (sp_X8_here hT hKC hrd hw hS hl  hp) rfl mo_X8_here (Or.inl hu_s) rfl (lkA q1496) (lkA q1498) (lkA qs23) rfl (lkA q103) mp_X8_here (Nat.le_of_ble_eq_true rfl) (Nat.le_of_ble_eq_true rfl) (Nat.le_of_ble_eq_true rfl) (kr_e ?_) kx_e
    refine r_bipush (v := 48) dX8_number_28 rfl ?_
    refine r_bipush (v := 57) dX8_number_30 rfl ?_
    refine r_invSN dX8_number_32 sp_X0_isIn rfl mo_X0_isIn (lkT q1654 rfl) (lkA q432) rfl (lkA q64) mp_X0_isIn (Nat.le_of_ble_eq_true rfl) (Nat.le_of_ble_eq_true rfl) (Nat.le_of_ble_eq_true rfl) (kr_e ?_) kx_e
    refine r_if_eq 67 dX8_number_35 rfl (fun c35 => ?_) (fun c35 => ?_)
    · refine r_iload_n dX8_number_67 rfl ?_
      exact r_ireturn dX8_number_68 rfl rfl ⟨v, by rw [hr, if_neg (fun e => by rw [show isn (hereT T p) 48 57 = true from e] at c35; exact absurd c35 (by decide))], rfl, by rw [hr, if_neg (fun e => by rw [show isn (hereT T p) 48 57 = true from e] at c35; exact absurd c35 (by decide))]⟩
    · refine r_bipush (v := 10) dX8_number_38 rfl ?_
      refine r_iload_n dX8_number_40 rfl ?_
      refine r_imul dX8_number_41 ?_
      first | refine r_aload_n dX8_number_42 rfl ?_ | refine r_aload_nq dX8_number_42 rfl ?_ | refine r_aload_nN dX8_number_42 rfl ?_
      refine r_invV dX8_number_43 (sp_X8_here hT hKC hrd hw hS hl  hp) rfl mo_X8_here (Or.inl hu_s) rfl (lkA q1496) (lkA q1498) (lkA qs23) rfl (lkA q103) mp_X8_here (Nat.le_of_ble_eq_true rfl) (Nat.le_of_ble_eq_true rfl) (Nat.le_of_ble_eq_true rfl) (kr_e ?_) kx_e
      refine r_iadd dX8_number_46 ?_
      refine r_bipush (v := 48) dX8_number_47 rfl ?_
      refine r_isub dX8_number_49 ?_
      refine r_istore_n dX8_number_50 (Nat.le_of_ble_eq_true rfl) ?_
      first | refine r_aload_n dX8_number_51 rfl ?_ | refine r_aload_nq dX8_number_51 rfl ?_ | refine r_aload_nN dX8_number_51 rfl ?_
      refine r_dup dX8_number_52 rfl ?_
      refine r_getfield 8 2 dX8_number_53 rfl (Nat.le_of_ble_eq_true rfl) (lkA q1472) (Or.inl rfl) (Or.inl hu_s) (by rfl) ?_
      refine r_iconst (v := 1) dX8_number_56 rfl ?_
      refine r_iadd dX8_number_57 ?_
      refine r_put 8 2 dX8_number_58 rfl (Nat.le_of_ble_eq_true rfl) (lkA q1472) (Or.inl rfl) rfl hu_s (by dsimp only [List.set]) (Nat.le_of_ble_eq_true rfl) rfl rfl (by rw [hu_hu, ← nI_succ]) ?_
      refine r_inc 1 dX8_number_61 rfl rfl (Nat.le_of_ble_eq_true rfl) ?_
      refine r_goto 19 dX8_number_64 rfl ?_
      rw [if_pos (show digB (hereT T p) = true from bi_n0.mp c35)] at hr
      refine V_loc (L' := [(3, .int (nI k + 1)), (2, .int (10 * v + hereT T p - 48)), (1, .int x), (0, .ref rd)]) ⟨rfl, rfl, rfl, rfl, trivial⟩ ?_
      rw [← nI_succ]
      exact ih (k + 1) _ (p + 1) (by omega) (here_d (bi_n0.mp c35)) hr

set_option maxHeartbeats 4000000 in
set_option maxRecDepth 100000 in
theorem sp_X8_number {G : GG} {h : HP} (hT : KT G) {ka : Nat → Nat} (hKC : KC G ka) {rd wa tx r N p : Nat} {T : List Int32} (hrd : h rd = none) (hw : h wa = some (bR 4 7 (fWds ka))) (hS : SB h tx r N T) (hl : T.length ≤ 60) (hp : p ≤ T.length) {x : Int32} {m : Nat} (hx : x.toInt = (m : Int)) (hm : m < 100) : Ct G 6 8 M_X8_number [.ref rd, .int x] (RH h rd wa tx p) (pbQ h rd wa tx (pN T m p)) := by
  refine ct_intro my_X8_number (Nat.le_of_ble_eq_true rfl) ?_
  have hS1 := SB_o (b := bRd wa tx p) hS hrd
  have htx := hS1.choose_spec.choose_spec.1
  first | refine r_aload_n dX8_number_0 rfl ?_ | refine r_aload_nq dX8_number_0 rfl ?_ | refine r_aload_nN dX8_number_0 rfl ?_
  first | refine r_aload_n dX8_number_1 rfl ?_ | refine r_aload_nq dX8_number_1 rfl ?_ | refine r_aload_nN dX8_number_1 rfl ?_
  refine r_invV dX8_number_2 (sp_X8_here hT hKC hrd hw hS hl  hp) rfl mo_X8_here (Or.inl hu_s) rfl (lkA q1496) (lkA q1498) (lkA qs23) rfl (lkA q103) mp_X8_here (Nat.le_of_ble_eq_true rfl) (Nat.le_of_ble_eq_true rfl) (Nat.le_of_ble_eq_true rfl) (kr_e ?_) kx_e
  refine r_bipush (v := 48) dX8_number_5 rfl ?_
  refine r_bipush (v := 57) dX8_number_7 rfl ?_
  refine r_invSN dX8_number_9 sp_X0_isIn rfl mo_X0_isIn (lkT q1654 rfl) (lkA q432) rfl (lkA q64) mp_X0_isIn (Nat.le_of_ble_eq_true rfl) (Nat.le_of_ble_eq_true rfl) (Nat.le_of_ble_eq_true rfl) (kr_e ?_) kx_e
  refine r_invV dX8_number_12 (sp_X8_needs hT hKC hrd hw hS hl  hp) rfl mo_X8_needs (Or.inl hu_s) rfl (lkA q1549) (lkA q1551) (lkA qs25) rfl (lkA q103) mp_X8_needs (Nat.le_of_ble_eq_true rfl) (Nat.le_of_ble_eq_true rfl) (Nat.le_of_ble_eq_true rfl) (fun v9 h9 p9 => ?_) (fun q9 h9 ci9 fs9 p9 hq9 => (r_out hq9 rfl ⟨by unfold pN; rw [if_neg (fun e => by rw [show isn (hereT T p) 48 57 = true from e] at p9; exact absurd p9.1 (by decide))], (by rw [show (pN T m p).1 = p by unfold pN; rw [if_neg (fun e => by rw [show isn (hereT T p) 48 57 = true from e] at p9; exact absurd p9.1 (by decide))]]; exact wr_mk hrd p9)⟩))
  obtain ⟨c12, rfl, rfl⟩ := p9
  have e9 : pN T m p = ((pD T m 0 p).1, some (pD T m 0 p).2) := if_pos (bi_n0.mp c12)
  rw [e9]
  refine r_iconst (v := 0) dX8_number_15 rfl ?_
  refine r_istore_n dX8_number_16 (Nat.le_of_ble_eq_true rfl) ?_
  refine r_iconst (v := 0) dX8_number_17 rfl ?_
  refine r_istore_n dX8_number_18 (Nat.le_of_ble_eq_true rfl) ?_
  refine V_loc (L' := [(3, .int (nI 0)), (2, .int (0)), (1, .int x), (0, .ref rd)]) ⟨rfl, rfl, rfl, rfl, trivial⟩ ?_
  exact (lp_number hT hKC hrd hw hS hl  hx hm _ m 0 0 p (by omega) hp rfl).less (Nat.zero_le _)

set_option maxHeartbeats 4000000 in
set_option maxRecDepth 100000 in
theorem sp_X8_behind {G : GG} {h : HP} (hT : KT G) {ka : Nat → Nat} (hKC : KC G ka) {rd wa tx r N p : Nat} {T : List Int32} (hrd : h rd = none) (hw : h wa = some (bR 4 7 (fWds ka))) (hS : SB h tx r N T) (hl : T.length ≤ 60) (hp : p ≤ T.length) {c x : Int32} {m : Nat} (hc : 0 ≤ c.toInt) (hx : x.toInt = (m : Int)) (hm : m < 100) : Ct G 7 16 M_X8_behind [.ref rd, .int c, .int x] (RH h rd wa tx p) (pbQ h rd wa tx (pB T c m p)) := by
  refine ct_intro my_X8_behind (Nat.le_of_ble_eq_true rfl) ?_
  have hS1 := SB_o (b := bRd wa tx p) hS hrd
  have htx := hS1.choose_spec.choose_spec.1
  have hp2 : (if hereT T p = c then p + 1 else p) ≤ T.length := by
    by_cases e : hereT T p = c
    · rw [if_pos e]; exact here_e e hc
    · rw [if_neg e]; exact hp
  first | refine r_aload_n dX8_behind_0 rfl ?_ | refine r_aload_nq dX8_behind_0 rfl ?_ | refine r_aload_nN dX8_behind_0 rfl ?_
  first | refine r_aload_n dX8_behind_1 rfl ?_ | refine r_aload_nq dX8_behind_1 rfl ?_ | refine r_aload_nN dX8_behind_1 rfl ?_
  refine r_iload_n dX8_behind_2 rfl ?_
  refine r_invV dX8_behind_3 (sp_X8_takes hT hKC hrd hw hS hl  hp) rfl mo_X8_takes (Or.inl hu_s) rfl (lkA q1545) (lkA q1547) (lkA qs24) rfl (lkA q103) mp_X8_takes (Nat.le_of_ble_eq_true rfl) (Nat.le_of_ble_eq_true rfl) (Nat.le_of_ble_eq_true rfl) (kr_e ?_) kx_e
  refine r_invV dX8_behind_6 (sp_X8_needs hT hKC hrd hw hS hl  hp2) rfl mo_X8_needs (Or.inl hu_s) rfl (lkA q1549) (lkA q1551) (lkA qs25) rfl (lkA q103) mp_X8_needs (Nat.le_of_ble_eq_true rfl) (Nat.le_of_ble_eq_true rfl) (Nat.le_of_ble_eq_true rfl) (fun v9 h9 p9 => ?_) (fun q9 h9 ci9 fs9 p9 hq9 => (by
      have e9 : ¬ hereT T p = c := of_decide_eq_false (bi_0.mp p9.1)
      rw [if_neg e9] at p9
      exact r_out hq9 rfl ⟨by rw [show pB T c m p = (p, none) from if_neg e9], by rw [show pB T c m p = (p, none) from if_neg e9]; exact wr_mk hrd p9⟩))
  obtain ⟨c6, rfl, rfl⟩ := p9
  have e6 : hereT T p = c := of_decide_eq_true (bi_n0.mp c6)
  rw [if_pos e6, show pB T c m p = pN T m (p + 1) from if_pos e6]
  first | refine r_aload_n dX8_behind_9 rfl ?_ | refine r_aload_nq dX8_behind_9 rfl ?_ | refine r_aload_nN dX8_behind_9 rfl ?_
  refine r_iload_n dX8_behind_10 rfl ?_
  refine r_invV dX8_behind_11 (sp_X8_number hT hKC hrd hw hS hl  (p := p + 1) (here_e e6 hc) hx hm) rfl mo_X8_number (Or.inl hu_s) rfl (lkA q1650) (lkA q1652) (lkA qs26) rfl (lkA q103) mp_X8_number (Nat.le_of_ble_eq_true rfl) (Nat.le_of_ble_eq_true rfl) (Nat.le_of_ble_eq_true rfl) (fun v9 h9 p9 => ?_) (fun q9 h9 ci9 fs9 p9 hq9 => (r_out hq9 rfl p9))
  obtain ⟨x9, hx9, rfl, rfl⟩ := p9
  exact r_ireturn dX8_behind_14 rfl rfl ⟨x9, hx9, rfl, rfl⟩

set_option maxHeartbeats 4000000 in
set_option maxRecDepth 100000 in
theorem sp_X8_brushes {G : GG} {h : HP} (hT : KT G) {ka : Nat → Nat} (hKC : KC G ka) {rd wa tx r N p : Nat} {T : List Int32} (hrd : h rd = none) (hw : h wa = some (bR 4 7 (fWds ka))) (hS : SB h tx r N T) (hl : T.length ≤ 60) (hp : p ≤ T.length)  : Ct G 7 16 M_X8_brushes [.ref rd] (RH h rd wa tx p) (pbQ h rd wa tx (pS T p)) := by
  refine ct_intro my_X8_brushes (Nat.le_of_ble_eq_true rfl) ?_
  have hS1 := SB_o (b := bRd wa tx p) hS hrd
  have htx := hS1.choose_spec.choose_spec.1
  first | refine r_aload_n dX8_brushes_0 rfl ?_ | refine r_aload_nq dX8_brushes_0 rfl ?_ | refine r_aload_nN dX8_brushes_0 rfl ?_
  refine r_invV dX8_brushes_1 (sp_X8_here hT hKC hrd hw hS hl  hp) rfl mo_X8_here (Or.inl hu_s) rfl (lkA q1496) (lkA q1498) (lkA qs23) rfl (lkA q103) mp_X8_here (Nat.le_of_ble_eq_true rfl) (Nat.le_of_ble_eq_true rfl) (Nat.le_of_ble_eq_true rfl) (kr_e ?_) kx_e
  refine r_bipush (v := 45) dX8_brushes_4 rfl ?_
  refine r_icmp_ne 13 dX8_brushes_6 rfl (fun c6 => ?_) (fun c6 => ?_)
  · refine r_iconst (v := 0) dX8_brushes_13 rfl ?_
    refine r_istore_n dX8_brushes_14 (Nat.le_of_ble_eq_true rfl) ?_
    first | refine r_aload_n dX8_brushes_15 rfl ?_ | refine r_aload_nq dX8_brushes_15 rfl ?_ | refine r_aload_nN dX8_brushes_15 rfl ?_
    refine r_iload_n dX8_brushes_16 rfl ?_
    refine r_if_ne 29 dX8_brushes_17 rfl (fun c17 => absurd c17 (by decide)) (fun c17 => ?_)
    first | refine r_aload_n dX8_brushes_20 rfl ?_ | refine r_aload_nq dX8_brushes_20 rfl ?_ | refine r_aload_nN dX8_brushes_20 rfl ?_
    refine r_invV dX8_brushes_21 (sp_X8_here hT hKC hrd hw hS hl  hp) rfl mo_X8_here (Or.inl hu_s) rfl (lkA q1496) (lkA q1498) (lkA qs23) rfl (lkA q103) mp_X8_here (Nat.le_of_ble_eq_true rfl) (Nat.le_of_ble_eq_true rfl) (Nat.le_of_ble_eq_true rfl) (kr_e ?_) kx_e
    refine r_bipush (v := 43) dX8_brushes_24 rfl ?_
    refine r_icmp_ne 33 dX8_brushes_26 rfl (fun c26 => ?_) (fun c26 => ?_)
    · refine r_iconst (v := 0) dX8_brushes_33 rfl ?_
      refine r_invV dX8_brushes_34 (sp_X8_needs hT hKC hrd hw hS hl  hp) rfl mo_X8_needs (Or.inl hu_s) rfl (lkA q1549) (lkA q1551) (lkA qs25) rfl (lkA q103) mp_X8_needs (Nat.le_of_ble_eq_true rfl) (Nat.le_of_ble_eq_true rfl) (Nat.le_of_ble_eq_true rfl) (fun v9 h9 p9 => ?_) (fun q9 h9 ci9 fs9 p9 hq9 => (r_out hq9 rfl (by rw [show pS T p = (p, none) by unfold pS; rw [if_neg c6, if_neg c26]]; exact ⟨rfl, wr_mk hrd p9⟩)))
      exact absurd rfl p9.1
    · refine r_iconst (v := 1) dX8_brushes_29 rfl ?_
      refine r_goto 34 dX8_brushes_30 rfl ?_
      refine r_invV dX8_brushes_34 (sp_X8_needs hT hKC hrd hw hS hl  hp) rfl mo_X8_needs (Or.inl hu_s) rfl (lkA q1549) (lkA q1551) (lkA qs25) rfl (lkA q103) mp_X8_needs (Nat.le_of_ble_eq_true rfl) (Nat.le_of_ble_eq_true rfl) (Nat.le_of_ble_eq_true rfl) (fun v9 h9 p9 => ?_) (fun q9 h9 ci9 fs9 p9 hq9 => (absurd p9.1 (by decide)))
      obtain ⟨-, rfl, rfl⟩ := p9
      have hp3 : p + 1 ≤ T.length := here_e c26 (by decide)
      rw [show pS T p = pN T 2 (p + 1) by unfold pS; rw [if_neg c6, if_pos c26]]
      first | refine r_aload_n dX8_brushes_37 rfl ?_ | refine r_aload_nq dX8_brushes_37 rfl ?_ | refine r_aload_nN dX8_brushes_37 rfl ?_
      refine r_dup dX8_brushes_38 rfl ?_
      refine r_getfield 8 2 dX8_brushes_39 rfl (Nat.le_of_ble_eq_true rfl) (lkA q1472) (Or.inl rfl) (Or.inl hu_s) (by rfl) ?_
      refine r_iconst (v := 1) dX8_brushes_42 rfl ?_
      refine r_iadd dX8_brushes_43 ?_
      refine r_put 8 2 dX8_brushes_44 rfl (Nat.le_of_ble_eq_true rfl) (lkA q1472) (Or.inl rfl) rfl hu_s (by dsimp only [List.set]) (Nat.le_of_ble_eq_true rfl) rfl rfl (by rw [hu_hu, ← nI_succ]) ?_
      refine r_iload_n dX8_brushes_47 rfl ?_
      refine r_if_eq 60 dX8_brushes_48 rfl (fun c48 => ?_) (fun c48 => absurd c48 (fun e => e rfl))
      first | refine r_aload_n dX8_brushes_60 rfl ?_ | refine r_aload_nq dX8_brushes_60 rfl ?_ | refine r_aload_nN dX8_brushes_60 rfl ?_
      refine r_iconst (v := 2) dX8_brushes_61 rfl ?_
      refine r_invV dX8_brushes_62 (sp_X8_number hT hKC hrd hw hS hl  (p := p + 1) hp3 (x := 2) (m := 2) rfl (by decide)) rfl mo_X8_number (Or.inl hu_s) rfl (lkA q1650) (lkA q1652) (lkA qs26) rfl (lkA q103) mp_X8_number (Nat.le_of_ble_eq_true rfl) (Nat.le_of_ble_eq_true rfl) (Nat.le_of_ble_eq_true rfl) (fun v9 h9 p9 => ?_) (fun q9 h9 ci9 fs9 p9 hq9 => (r_out hq9 rfl p9))
      obtain ⟨x9, hx9, rfl, rfl⟩ := p9
      exact r_ireturn dX8_brushes_65 rfl rfl ⟨x9, hx9, rfl, rfl⟩
  · refine r_iconst (v := 1) dX8_brushes_9 rfl ?_
    refine r_goto 14 dX8_brushes_10 rfl ?_
    refine r_istore_n dX8_brushes_14 (Nat.le_of_ble_eq_true rfl) ?_
    first | refine r_aload_n dX8_brushes_15 rfl ?_ | refine r_aload_nq dX8_brushes_15 rfl ?_ | refine r_aload_nN dX8_brushes_15 rfl ?_
    refine r_iload_n dX8_brushes_16 rfl ?_
    refine r_if_ne 29 dX8_brushes_17 rfl (fun c17 => ?_) (fun c17 => absurd c17 (by decide))
    refine r_iconst (v := 1) dX8_brushes_29 rfl ?_
    refine r_goto 34 dX8_brushes_30 rfl ?_
    refine r_invV dX8_brushes_34 (sp_X8_needs hT hKC hrd hw hS hl  hp) rfl mo_X8_needs (Or.inl hu_s) rfl (lkA q1549) (lkA q1551) (lkA qs25) rfl (lkA q103) mp_X8_needs (Nat.le_of_ble_eq_true rfl) (Nat.le_of_ble_eq_true rfl) (Nat.le_of_ble_eq_true rfl) (fun v9 h9 p9 => ?_) (fun q9 h9 ci9 fs9 p9 hq9 => (absurd p9.1 (by decide)))
    obtain ⟨-, rfl, rfl⟩ := p9
    have hp3 : p + 1 ≤ T.length := here_e c6 (by decide)
    rw [show pS T p = pNeg (pN T 2 (p + 1)) from if_pos c6]
    first | refine r_aload_n dX8_brushes_37 rfl ?_ | refine r_aload_nq dX8_brushes_37 rfl ?_ | refine r_aload_nN dX8_brushes_37 rfl ?_
    refine r_dup dX8_brushes_38 rfl ?_
    refine r_getfield 8 2 dX8_brushes_39 rfl (Nat.le_of_ble_eq_true rfl) (lkA q1472) (Or.inl rfl) (Or.inl hu_s) (by rfl) ?_
    refine r_iconst (v := 1) dX8_brushes_42 rfl ?_
    refine r_iadd dX8_brushes_43 ?_
    refine r_put 8 2 dX8_brushes_44 rfl (Nat.le_of_ble_eq_true rfl) (lkA q1472) (Or.inl rfl) rfl hu_s (by dsimp only [List.set]) (Nat.le_of_ble_eq_true rfl) rfl rfl (by rw [hu_hu, ← nI_succ]) ?_
    refine r_iload_n dX8_brushes_47 rfl ?_
    refine r_if_eq 60 dX8_brushes_48 rfl (fun c48 => absurd c48 (by decide)) (fun c48 => ?_)
    first | refine r_aload_n dX8_brushes_51 rfl ?_ | refine r_aload_nq dX8_brushes_51 rfl ?_ | refine r_aload_nN dX8_brushes_51 rfl ?_
    refine r_iconst (v := 2) dX8_brushes_52 rfl ?_
    refine r_invV dX8_brushes_53 (sp_X8_number hT hKC hrd hw hS hl  (p := p + 1) hp3 (x := 2) (m := 2) rfl (by decide)) rfl mo_X8_number (Or.inl hu_s) rfl (lkA q1650) (lkA q1652) (lkA qs26) rfl (lkA q103) mp_X8_number (Nat.le_of_ble_eq_true rfl) (Nat.le_of_ble_eq_true rfl) (Nat.le_of_ble_eq_true rfl) (fun v9 h9 p9 => ?_) (fun q9 h9 ci9 fs9 p9 hq9 => (r_out hq9 rfl ⟨by show Option.map _ _ = none; rw [p9.1]; rfl, p9.2⟩))
    obtain ⟨x9, hx9, rfl, rfl⟩ := p9
    refine r_ineg dX8_brushes_56 ?_
    refine r_goto 65 dX8_brushes_57 rfl ?_
    exact r_ireturn dX8_brushes_65 rfl rfl ⟨-x9, by show Option.map _ _ = _; rw [hx9]; rfl, rfl, rfl⟩

def pwQ (ka : Nat → Nat) (h : HP) (rd wa tx : Nat) (b : Nat × Option Nat) : Oc → HP → Prop := fun o h' => match o with
  | .inl v => ∃ k, b.2 = some k ∧ v = some (.ref (ka k)) ∧ h' = RH h rd wa tx b.1
  | .inr q => b.2 = none ∧ wrE h rd wa tx b.1 q h'
theorem pX_s {T l : List Int32} {n i p : Nat} : pX T l (n + 1) i p = if hereT T p = l.getD i 0 then pX T l n (i + 1) (p + 1) else (p, false) := rfl
set_option maxHeartbeats 4000000 in
set_option maxRecDepth 100000 in
theorem lp_letters {G : GG} {h : HP} (hT : KT G) {ka : Nat → Nat} (hKC : KC G ka) {rd wa tx r N : Nat} {T : List Int32} (hrd : h rd = none) (hw : h wa = some (bR 4 7 (fWds ka))) (hS : SB h tx r N T) (hl : T.length ≤ 60) {k : Nat} (hk7 : k < 7) (hk6 : (kch k).length ≤ 6) (r9 : Nat × Bool) : ∀ (n i p : Nat), i + n = (kch k).length → p ≤ T.length → r9 = pX T (kch k) n i p → V G 6 M_X8_word 39 [(5, .int (nI i)), (4, .ref (ka k)), (0, .ref rd)] [] (RH h rd wa tx p) (8 * n) (pwQ ka h rd wa tx (r9.1, if r9.2 = true then some k else none)) := by
  intro n
  induction n with
  | zero =>
    intro i p hk hp hr
    obtain ⟨fs9, ho9⟩ := ST_obj (ST_k hKC (RH h rd wa tx p) k (by omega))
    refine r_iload dX8_word_39 rfl ?_
    first | refine r_aload dX8_word_41 rfl ?_ | refine r_aloadq dX8_word_41 rfl ?_ | refine r_aloadN dX8_word_41 rfl ?_
    refine r_invV dX8_word_43 (sp_ST_length hT (ST_k hKC _ k (by omega))) rfl mo_J12_length ho9 rfl (lkA q1544) (lkA q721) (lkA q722) rfl (lkA q80) mp_J12_length (Nat.le_of_ble_eq_true rfl) (Nat.le_of_ble_eq_true rfl) (Nat.le_of_ble_eq_true rfl) (kr_e ?_) kx_e
    refine r_icmp_ge 70 dX8_word_46 rfl (fun c46 => ?_) (fun c46 => absurd c46 (fun e => e ((nJ_le (by omega) (by omega)).mpr (by omega))))
    first | refine r_aload dX8_word_70 rfl ?_ | refine r_aloadq dX8_word_70 rfl ?_ | refine r_aloadN dX8_word_70 rfl ?_
    first | exact r_areturn dX8_word_72 rfl rfl ⟨k, by rw [hr]; rfl, rfl, by rw [hr]; rfl⟩ | exact r_areturnq dX8_word_72 rfl rfl ⟨k, by rw [hr]; rfl, rfl, by rw [hr]; rfl⟩ | exact r_areturnN dX8_word_72 rfl rfl ⟨k, by rw [hr]; rfl, rfl, by rw [hr]; rfl⟩
  | succ n ih =>
    intro i p hk hp hr
    obtain ⟨fs9, ho9⟩ := ST_obj (ST_k hKC (RH h rd wa tx p) k (by omega))
    have hac := (kch_as (show k < 20 by omega) i (by omega)).1
    have hp2 : (if hereT T p = (kch k).getD i 0 then p + 1 else p) ≤ T.length := by
      by_cases e : hereT T p = (kch k).getD i 0
      · rw [if_pos e]; exact here_e e hac
      · rw [if_neg e]; exact hp
    refine r_iload dX8_word_39 rfl ?_
    first | refine r_aload dX8_word_41 rfl ?_ | refine r_aloadq dX8_word_41 rfl ?_ | refine r_aloadN dX8_word_41 rfl ?_
    refine r_invV dX8_word_43 (sp_ST_length hT (ST_k hKC _ k (by omega))) rfl mo_J12_length ho9 rfl (lkA q1544) (lkA q721) (lkA q722) rfl (lkA q80) mp_J12_length (Nat.le_of_ble_eq_true rfl) (Nat.le_of_ble_eq_true rfl) (Nat.le_of_ble_eq_true rfl) (kr_e ?_) kx_e
    refine r_icmp_ge 70 dX8_word_46 rfl (fun c46 => absurd c46 (fun e => by have := (nJ_le (by omega) (by omega)).mp e; omega)) (fun c46 => ?_)
    first | refine r_aload_n dX8_word_49 rfl ?_ | refine r_aload_nq dX8_word_49 rfl ?_ | refine r_aload_nN dX8_word_49 rfl ?_
    first | refine r_aload_n dX8_word_50 rfl ?_ | refine r_aload_nq dX8_word_50 rfl ?_ | refine r_aload_nN dX8_word_50 rfl ?_
    first | refine r_aload dX8_word_51 rfl ?_ | refine r_aloadq dX8_word_51 rfl ?_ | refine r_aloadN dX8_word_51 rfl ?_
    refine r_iload dX8_word_53 rfl ?_
    refine r_invV dX8_word_55 (sp_ST_charAt hT (ST_k hKC _ k (by omega)) (nIn (show i < 1000 by omega)) (by omega)) rfl mo_J12_charAt ho9 rfl (lkA q1543) (lkA q1518) (lkA q2248) rfl (lkA q80) mp_J12_charAt (Nat.le_of_ble_eq_true rfl) (Nat.le_of_ble_eq_true rfl) (Nat.le_of_ble_eq_true rfl) (kr_e ?_) kx_e
    refine r_invV dX8_word_58 (sp_X8_takes hT hKC hrd hw hS hl  hp) rfl mo_X8_takes (Or.inl hu_s) rfl (lkA q1545) (lkA q1547) (lkA qs24) rfl (lkA q103) mp_X8_takes (Nat.le_of_ble_eq_true rfl) (Nat.le_of_ble_eq_true rfl) (Nat.le_of_ble_eq_true rfl) (kr_e ?_) kx_e
    refine r_invV dX8_word_61 (sp_X8_needs hT hKC hrd hw hS hl  hp2) rfl mo_X8_needs (Or.inl hu_s) rfl (lkA q1549) (lkA q1551) (lkA qs25) rfl (lkA q103) mp_X8_needs (Nat.le_of_ble_eq_true rfl) (by omega) (Nat.le_of_ble_eq_true rfl) (fun v9 h9 p9 => ?_) (fun q9 h9 ci9 fs9 p9 hq9 => (by
      have e9 : ¬ hereT T p = (kch k).getD i 0 := of_decide_eq_false (bi_0.mp p9.1)
      rw [if_neg e9] at p9
      exact r_out hq9 rfl ⟨by rw [hr, pX_s, if_neg e9]; rfl, by rw [hr, pX_s, if_neg e9]; exact wr_mk hrd p9⟩))
    obtain ⟨c6, rfl, rfl⟩ := p9
    have e6 : hereT T p = (kch k).getD i 0 := of_decide_eq_true (bi_n0.mp c6)
    rw [if_pos e6]
    rw [pX_s, if_pos e6] at hr
    refine r_inc 1 dX8_word_64 rfl rfl (Nat.le_of_ble_eq_true rfl) ?_
    refine r_goto 39 dX8_word_67 rfl ?_
    refine V_loc (L' := [(5, .int (nI i + 1)), (4, .ref (ka k)), (0, .ref rd)]) ⟨rfl, rfl, rfl, trivial⟩ ?_
    rw [← nI_succ]
    exact (ih (i + 1) (p + 1) (by omega) (here_e e6 hac) hr).less (by omega)

set_option maxHeartbeats 4000000 in
set_option maxRecDepth 100000 in
theorem lp_words {G : GG} {h : HP} (hT : KT G) {ka : Nat → Nat} (hKC : KC G ka) {rd wa tx r N p : Nat} {T : List Int32} (hrd : h rd = none) (hw : h wa = some (bR 4 7 (fWds ka))) (hS : SB h tx r N T) (hl : T.length ≤ 60) (hp : p ≤ T.length)  : ∀ (n k : Nat), k + n = 7 → (∀ j, j < k → ¬ hereT T p = (kch j).getD 0 0) → V G 6 M_X8_word 10 [(3, .int (nI k)), (2, .int (nI 7)), (1, .ref wa), (0, .ref rd)] [] (RH h rd wa tx p) 60 (pwQ ka h rd wa tx (pW T p)) := by
  intro n
  induction n with
  | zero =>
    intro k hk hno
    refine r_iload_n dX8_word_10 rfl ?_
    refine r_iload_n dX8_word_11 rfl ?_
    refine r_icmp_ge 79 dX8_word_12 rfl (fun c12 => ?_) (fun c12 => absurd c12 (fun e => e ((nJ_le (by omega) (by omega)).mpr (by omega))))
    refine r_new 7 [.null, .null, .null, .null, .null, .int 0, .int 0] dX8_word_79 rfl (lkA q1553) (lkA q1554) (lkA q105) (fun j hj => match j, hj with | 0, _ => rfl | 1, _ => rfl | 2, _ => rfl | 3, _ => rfl | 4, _ => rfl | 5, _ => rfl | 6, _ => rfl | k + 7, hk => absurd hk (Nat.not_lt.mpr (Nat.le_add_left 7 k))) (Nat.le_of_ble_eq_true rfl) (fun q79 hq79 => ?_)
    refine r_dup dX8_word_82 rfl ?_
    first | refine r_aload_n dX8_word_83 rfl ?_ | refine r_aload_nq dX8_word_83 rfl ?_ | refine r_aload_nN dX8_word_83 rfl ?_
    refine r_getfield 8 2 dX8_word_84 rfl (Nat.le_of_ble_eq_true rfl) (lkA q1472) (Or.inl rfl) (Or.inl (hu_o hq79 hu_s)) (by rfl) ?_
    refine r_invI dX8_word_87 (sp_X10_init hT.1 hu_s) rfl mo_X10_init (lkA q1562) (lkA q1563) rfl rfl rfl (lkA q105) mp_X10_init (Nat.le_of_ble_eq_true rfl) (Nat.le_of_ble_eq_true rfl) (Nat.le_of_ble_eq_true rfl) (kr_e ?_) kx_e
    try simp only [hu_hu]
    refine r_athrow dX8_word_90 ?_
    exact r_out hu_s rfl (by
          have e9 : pW T p = (p, none) := by
            unfold pW
            cases e : fK (hereT T p) with
            | none => rfl
            | some j => exact absurd (fK_i e).2 (hno j (by have := (fK_i e).1; omega))
          rw [e9]
          exact ⟨rfl, wr_mk (P := True) hrd ⟨trivial, hq79, rfl⟩⟩)
  | succ n ih =>
    intro k hk hno
    have hk7 : k < 7 := by omega
    have hk6 := kch_l k (by omega)
    have hk1 : 0 < (kch k).length := of_decide_eq_true (allB_at (n := 7) (p := fun k => decide (0 < (kch k).length)) (by decide +kernel) k hk7)
    obtain ⟨fs9, ho9⟩ := ST_obj (ST_k hKC (RH h rd wa tx p) k (by omega))
    have hwa : RH h rd wa tx p wa = some (bR 4 7 (fWds ka)) := hu_o hrd hw
    refine r_iload_n dX8_word_10 rfl ?_
    refine r_iload_n dX8_word_11 rfl ?_
    refine r_icmp_ge 79 dX8_word_12 rfl (fun c12 => absurd c12 (fun e => by have := (nJ_le (by omega) (by omega)).mp e; omega)) (fun c12 => ?_)
    first | refine r_aload_n dX8_word_15 rfl ?_ | refine r_aload_nq dX8_word_15 rfl ?_ | refine r_aload_nN dX8_word_15 rfl ?_
    refine r_iload_n dX8_word_16 rfl ?_
    refine r_aaload (k) (by decide) dX8_word_17 (Or.inl hwa) (nIn (by omega)) hk7 (if_pos hk7) ?_
    first | refine r_astore dX8_word_18 (Nat.le_of_ble_eq_true rfl) ?_ | refine r_astoreq dX8_word_18 (Nat.le_of_ble_eq_true rfl) ?_ | refine r_astoreN dX8_word_18 (Nat.le_of_ble_eq_true rfl) ?_
    first | refine r_aload_n dX8_word_20 rfl ?_ | refine r_aload_nq dX8_word_20 rfl ?_ | refine r_aload_nN dX8_word_20 rfl ?_
    refine r_invV dX8_word_21 (sp_X8_here hT hKC hrd hw hS hl  hp) rfl mo_X8_here (Or.inl hu_s) rfl (lkA q1496) (lkA q1498) (lkA qs23) rfl (lkA q103) mp_X8_here (Nat.le_of_ble_eq_true rfl) (Nat.le_of_ble_eq_true rfl) (Nat.le_of_ble_eq_true rfl) (kr_e ?_) kx_e
    first | refine r_aload dX8_word_24 rfl ?_ | refine r_aloadq dX8_word_24 rfl ?_ | refine r_aloadN dX8_word_24 rfl ?_
    refine r_iconst (v := 0) dX8_word_26 rfl ?_
    refine r_invV dX8_word_27 (sp_ST_charAt hT (ST_k hKC _ k (by omega)) (j := 0) (i := 0) rfl hk1) rfl mo_J12_charAt ho9 rfl (lkA q1543) (lkA q1518) (lkA q2248) rfl (lkA q80) mp_J12_charAt (Nat.le_of_ble_eq_true rfl) (Nat.le_of_ble_eq_true rfl) (Nat.le_of_ble_eq_true rfl) (kr_e ?_) kx_e
    refine r_icmp_eq 36 dX8_word_30 rfl (fun c30 => ?_) (fun c30 => ?_)
    · refine r_iconst (v := 0) dX8_word_36 rfl ?_
      refine r_istore dX8_word_37 (Nat.le_of_ble_eq_true rfl) ?_
      refine V_loc (L' := [(5, .int (nI 0)), (4, .ref (ka k)), (0, .ref rd)]) ⟨rfl, rfl, rfl, trivial⟩ ?_
      have e9 : pW T p = ((pX T (kch k) (kch k).length 0 p).1, if (pX T (kch k) (kch k).length 0 p).2 = true then some k else none) := by
        unfold pW
        rw [c30, fK_k k hk7]
      rw [e9]
      exact (lp_letters hT hKC hrd hw hS hl  hk7 hk6 _ _ 0 p (by omega) hp rfl).less (by omega)
    · refine r_goto 73 dX8_word_33 rfl ?_
      refine r_inc 1 dX8_word_73 rfl rfl (Nat.le_of_ble_eq_true rfl) ?_
      refine r_goto 10 dX8_word_76 rfl ?_
      refine V_loc (L' := [(3, .int (nI k + 1)), (2, .int (nI 7)), (1, .ref wa), (0, .ref rd)]) ⟨rfl, rfl, rfl, rfl, trivial⟩ ?_
      rw [← nI_succ]
      exact ih (k + 1) (by omega) (fun j hj => by
        by_cases e : j = k
        · rw [e]; exact c30
        · exact hno j (by omega))

set_option maxHeartbeats 4000000 in
set_option maxRecDepth 100000 in
theorem sp_X8_word {G : GG} {h : HP} (hT : KT G) {ka : Nat → Nat} (hKC : KC G ka) {rd wa tx r N p : Nat} {T : List Int32} (hrd : h rd = none) (hw : h wa = some (bR 4 7 (fWds ka))) (hS : SB h tx r N T) (hl : T.length ≤ 60) (hp : p ≤ T.length)  : Ct G 6 60 M_X8_word [.ref rd] (RH h rd wa tx p) (pwQ ka h rd wa tx (pW T p)) := by
  refine ct_intro my_X8_word (Nat.le_of_ble_eq_true rfl) ?_
  have hS1 := SB_o (b := bRd wa tx p) hS hrd
  have htx := hS1.choose_spec.choose_spec.1
  first | refine r_aload_n dX8_word_0 rfl ?_ | refine r_aload_nq dX8_word_0 rfl ?_ | refine r_aload_nN dX8_word_0 rfl ?_
  refine r_getfield 8 0 dX8_word_1 rfl (Nat.le_of_ble_eq_true rfl) (lkA q1470) (Or.inl rfl) (Or.inl hu_s) (by rfl) ?_
  first | refine r_astore_n dX8_word_4 (Nat.le_of_ble_eq_true rfl) ?_ | refine r_astore_nq dX8_word_4 (Nat.le_of_ble_eq_true rfl) ?_ | refine r_astore_nN dX8_word_4 (Nat.le_of_ble_eq_true rfl) ?_
  first | refine r_aload_n dX8_word_5 rfl ?_ | refine r_aload_nq dX8_word_5 rfl ?_ | refine r_aload_nN dX8_word_5 rfl ?_
  refine r_alenR _ (Nat.le_of_ble_eq_true rfl) dX8_word_6 (Or.inl (hu_o hrd hw)) rfl ?_
  refine r_istore_n dX8_word_7 (Nat.le_of_ble_eq_true rfl) ?_
  refine r_iconst (v := 0) dX8_word_8 rfl ?_
  refine r_istore_n dX8_word_9 (Nat.le_of_ble_eq_true rfl) ?_
  refine V_loc (L' := [(3, .int (nI 0)), (2, .int (nI 7)), (1, .ref wa), (0, .ref rd)]) ⟨rfl, rfl, rfl, rfl, trivial⟩ ?_
  exact lp_words hT hKC hrd hw hS hl  hp 7 0 (by omega) (fun j hj => absurd hj (Nat.not_lt_zero j))

