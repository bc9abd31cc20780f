set_option maxRecDepth 100000
/-- a linked list -/
def LkS (h : HP) (lq : Nat) (nd it : Nat → Nat) (n : Nat) : Prop := h lq = some (bLL (nI n) (nI n) nd n) ∧ (∀ i, i < n → h (nd i) = some (bNd nd it n i)) ∧ ∀ i j, i < n → j < n → nd i = nd j → i = j
theorem LkS_fr {h h' : HP} {lq n : Nat} {nd it : Nat → Nat} (hL : LkS h lq nd it n) (hf : ∀ q b, kd b = 11 ∨ kd b = 18 → h q = some b → h' q = some b) : LkS h' lq nd it n := ⟨hf _ _ (Or.inl rfl) hL.1, fun i hi => hf _ _ (Or.inr rfl) (hL.2.1 i hi), hL.2.2⟩
theorem LkS_put {h h' : HP} {lq n qn v : Nat} {nd it : Nat → Nat} (hL : LkS h lq nd it n) (hq : h qn = none) (h1 : h' lq = some (bLL (nI (n + 1)) (nI (n + 1)) (upN nd n qn) (n + 1))) (h2 : h' qn = some (bNd (upN nd n qn) (upN it n v) (n + 1) n)) (h3 : ∀ i, i < n → h' (nd i) = some (bNd (upN nd n qn) (upN it n v) (n + 1) i)) : LkS h' lq (upN nd n qn) (upN it n v) (n + 1) := by
  refine ⟨h1, fun i hi => ?_, fun i j hi hj e => ?_⟩
  · by_cases e : i = n
    · rw [e, upN_s]; exact h2
    · rw [upN_n e]; exact h3 i (by omega)
  · have no : ∀ k, k < n → nd k ≠ qn := fun k hk e => by
      have := hL.2.1 k hk
      rw [e, hq] at this
      cases this
    by_cases ei : i = n
    · by_cases ej : j = n
      · rw [ei, ej]
      · rw [ei, upN_s, upN_n ej] at e
        exact absurd e.symm (no j (by omega))
    · by_cases ej : j = n
      · rw [ej, upN_s, upN_n ei] at e
        exact absurd e (no i (by omega))
      · rw [upN_n ei, upN_n ej] at e
        exact hL.2.2 i j (by omega) (by omega) e
theorem sp_LkS_add {G : GG} {h : HP} {lq n v : Nat} {nd it : Nat → Nat} (hL : LkS h lq nd it n) (hn : n < 100) : Ct G 3 4 M_J4_addLast [.ref lq, .ref v] h (rQ (fun u h' => u = none ∧ ∃ qn, h qn = none ∧ LkS h' lq (upN nd n qn) (upN it n v) (n + 1) ∧ ∀ z b, z ≠ lq → (∀ i, i < n → z ≠ nd i) → h z = some b → h' z = some b)) := by
  have e1 : nI n + 1 = nI (n + 1) := (nI_succ n).symm
  rcases Nat.eq_zero_or_pos n with h0 | h0
  · refine (sp_J4_addLast0 hL.1 (nIn (by omega)) h0).mono (fun u h' hq => ?_)
    rcases u with u | q
    · obtain ⟨rfl, qn, hq, rfl⟩ := hq
      subst h0
      have eq : qn ≠ lq := Ne.symm (ne_o hq hL.1)
      exact ⟨rfl, qn, hq, LkS_put (v := v) hL hq hu_s ((hu_n eq).trans hu_s) (fun i hi => absurd hi (Nat.not_lt_zero i)), fun z b z1 _ hb => (hu_n z1).trans (hu_o hq hb)⟩
    · exact hq.elim
  · obtain ⟨m, rfl⟩ : ∃ m, n = m + 1 := ⟨n - 1, by omega⟩
    have hm := hL.2.1 m (by omega)
    refine (sp_J4_addLast1 hL.1 (nIn (by omega)) (m := m) rfl hm).mono (fun u h' hq => ?_)
    rcases u with u | q
    · obtain ⟨rfl, qn, hq, rfl⟩ := hq
      have eq : qn ≠ lq := Ne.symm (ne_o hq hL.1)
      have em : lq ≠ nd m := kd_ne hL.1 hm (show 11 ≠ 18 by decide)
      have eqm : qn ≠ nd m := Ne.symm (ne_o hq hm)
      have eN : ∀ k, k < m + 1 → nd k = upN nd (m + 1) qn k := fun k hk => (upN_n (by omega)).symm
      refine ⟨rfl, qn, hq, LkS_put (v := v) hL hq ?_ ?_ (fun i hi => ?_), fun z b z1 z2 hb => (hu_n (z2 m (by omega))).trans ((hu_n z1).trans (hu_o hq hb))⟩
      · rw [hu_n em, hu_s, e1, bLL, inx_s (by omega), inx_s (by omega), ipv_s, upN_s, eN 0 (by omega)]
        rfl
      · rw [hu_n eqm, hu_n eq, hu_s, bNd, upN_s, inx_n (by omega), ipv_s, ← eN m (by omega)]
        rfl
      · by_cases e : i = m
        · rw [e, hu_s, bNd, inx_s (by omega), upN_s, upN_n (show m ≠ m + 1 by omega), ipv_ad (n := m) (fun k hk => eN k (by omega)) (Nat.le_refl m)]
          rfl
        · have e2 : nd i ≠ nd m := fun e3 => e (hL.2.2 i m hi (by omega) e3)
          have hi2 := hL.2.1 i hi
          rw [hu_n e2, hu_n (kd_ne hi2 hL.1 (show 18 ≠ 11 by decide)), hu_n (ne_o hq hi2), hi2, bNd, bNd, inx_s (by omega), inx_s (by omega), upN_n (show i ≠ m + 1 by omega), ← eN (i + 1) (by omega), ipv_ad (n := i) (fun k hk => eN k (by omega)) (Nat.le_refl i)]
    · exact hq.elim
/-! ### the reader in any heap -/
def rbH (H : HP) (rd : Nat) : HP := fun q => if q = rd then none else H q
theorem rb_n {H : HP} {rd q : Nat} (e : q ≠ rd) : rbH H rd q = H q := if_neg e
theorem rb_s {H : HP} {rd : Nat} : rbH H rd rd = none := if_pos rfl
theorem RH_rb {H : HP} {rd wa tx p : Nat} (hr : H rd = some (bRd wa tx p)) : RH (rbH H rd) rd wa tx p = H := by
  funext q
  by_cases e : q = rd
  · rw [e]
    exact hu_s.trans hr.symm
  · exact (hu_n e).trans (rb_n e)
theorem RH_at {H : HP} {rd wa tx p z : Nat} {b : Bd} {h2 : HP} (hx : Ext (rbH H rd) h2) (hz : z ≠ rd) (hb : H z = some b) : RH h2 rd wa tx p z = some b := by
  exact (hu_n hz).trans (hx z b ((rb_n hz).trans hb))
/-- what the reader needs in a heap -/
def RDh (ka : Nat → Nat) (H : HP) (rd wa tx r N : Nat) (T : List Int32) (p : Nat) : Prop := H rd = some (bRd wa tx p) ∧ H wa = some (bR 4 7 (fWds ka)) ∧ SB H tx r N T ∧ T.length ≤ 60 ∧ p ≤ T.length
theorem RDh_b {ka : Nat → Nat} {H : HP} {rd wa tx r N p : Nat} {T : List Int32} (hR : RDh ka H rd wa tx r N T p) : rbH H rd wa = some (bR 4 7 (fWds ka)) ∧ SB (rbH H rd) tx r N T := by
  obtain ⟨h1, h2, ⟨m, g, h3, h4, h5⟩, _⟩ := hR
  have a1 : wa ≠ rd := kd_ne h2 h1 (show 1007 ≠ 8 by decide)
  have a2 : tx ≠ rd := kd_ne h3 h1 (show 14 ≠ 8 by decide)
  have a3 : r ≠ rd := kd_ne h4 h1 (show 101 ≠ 8 by decide)
  exact ⟨(rb_n a1).trans h2, m, g, (rb_n a2).trans h3, (rb_n a3).trans h4, h5⟩
theorem RDh_fr {ka : Nat → Nat} {H H' : HP} {rd wa tx r N p p' : Nat} {T : List Int32} (hR : RDh ka H rd wa tx r N T p) (hf : ∀ z b, z ≠ rd → H z = some b → H' z = some b) (hr : H' rd = some (bRd wa tx p')) (hp : p' ≤ T.length) : RDh ka H' rd wa tx r N T p' := by
  obtain ⟨h1, h2, ⟨m, g, h3, h4, h5⟩, h6, h7⟩ := hR
  have a1 : wa ≠ rd := kd_ne h2 h1 (show 1007 ≠ 8 by decide)
  have a2 : tx ≠ rd := kd_ne h3 h1 (show 14 ≠ 8 by decide)
  have a3 : r ≠ rd := kd_ne h4 h1 (show 101 ≠ 8 by decide)
  exact ⟨hr, hf _ _ a1 h2, ⟨m, g, hf _ _ a2 h3, hf _ _ a3 h4, h5⟩, h6, hp⟩
def fR (rd : Nat) (H H' : HP) : Prop := ∀ z b, z ≠ rd → H z = some b → H' z = some b
def wrF (H : HP) (rd p q : Nat) (H' : HP) : Prop := H' q = some (bWro (nI p)) ∧ fR rd H H'
theorem wrF_of {H H' : HP} {rd wa tx p q : Nat} (hw : wrE (rbH H rd) rd wa tx p q H') : wrF H rd p q H' := by
  obtain ⟨h2, h3, h4, h5, rfl⟩ := hw
  exact ⟨(hu_n (fun e => by rw [e, h4] at h5; cases h5)).trans h5, fun z b hz hb => RH_at h3 hz hb⟩
def poF (ka : Nat → Nat) (H : HP) (rd wa tx : Nat) (b : Nat × Option Ord1) : Oc → HP → Prop := fun o h' => match o with
  | .inl v => ∃ a q, b.2 = some a ∧ v = some (.ref q) ∧ h' q = some (bOr ka a) ∧ h' rd = some (bRd wa tx b.1) ∧ fR rd H h'
  | .inr q => b.2 = none ∧ wrF H rd b.1 q h'
theorem sp_order_f {G : GG} {h : HP} (hT : KT G) {ka : Nat → Nat} (hKC : KC G ka) {rd wa tx r N p : Nat} {T : List Int32} (hR : RDh ka h rd wa tx r N T p) : Ct G 8 130 M_X8_order [.ref rd] h (poF ka h rd wa tx (pO T p)) := by
  obtain ⟨hw, hS⟩ := RDh_b hR
  have := sp_X8_order hT hKC (rb_s (H := h) (rd := rd)) hw hS hR.2.2.2.1 hR.2.2.2.2
  rw [RH_rb hR.1] at this
  refine this.mono (fun o h' hq => ?_)
  rcases o with v | q
  · obtain ⟨a, q, h1, h2, h3, h4, rfl⟩ := hq
    exact ⟨a, q, h1, h2, (hu_n h4).trans hu_s, hu_s, fun z b hz hb => RH_at (Ext.new h3) hz hb⟩
  · exact ⟨hq.1, wrF_of hq.2⟩
theorem sp_takes_f {G : GG} {h : HP} (hT : KT G) {ka : Nat → Nat} (hKC : KC G ka) {rd wa tx r N p : Nat} {T : List Int32} (hR : RDh ka h rd wa tx r N T p) {x : Int32} : Ct G 5 0 M_X8_takes [.ref rd, .int x] h (eQ (some (.int (bi (decide (hereT T p = x))))) (hu h rd (bRd wa tx (if hereT T p = x then p + 1 else p)))) := by
  obtain ⟨hw, hS⟩ := RDh_b hR
  have := sp_X8_takes (x := x) hT hKC (rb_s (H := h) (rd := rd)) hw hS hR.2.2.2.1 hR.2.2.2.2
  rw [RH_rb hR.1] at this
  refine this.mono (fun o h' hq => ?_)
  rcases o with v | q
  · obtain ⟨h1, rfl⟩ := hq
    refine ⟨h1, ?_⟩
    have e := RH_rb hR.1
    have e2 : hu (RH (rbH h rd) rd wa tx p) rd (bRd wa tx (if hereT T p = x then p + 1 else p)) = RH (rbH h rd) rd wa tx (if hereT T p = x then p + 1 else p) := hu_hu
    rw [e] at e2
    exact e2.symm
  · exact hq.elim
theorem sp_needs_f {G : GG} {h : HP} (hT : KT G) {ka : Nat → Nat} (hKC : KC G ka) {rd wa tx r N p : Nat} {T : List Int32} (hR : RDh ka h rd wa tx r N T p) {x : Int32} : Ct G 5 8 M_X8_needs [.ref rd, .int x] h (tfQ (x = 0) (bWro (nI p)) h) := by
  obtain ⟨hw, hS⟩ := RDh_b hR
  have := sp_X8_needs (x := x) hT hKC (rb_s (H := h) (rd := rd)) hw hS hR.2.2.2.1 hR.2.2.2.2
  rw [RH_rb hR.1] at this
  exact this
/-! ### the orders -/
/-- the orders behind an order -/
def pT (T : List Int32) (n p : Nat) : Nat × Option (List Ord1) := if hereT T p = 59 then pR T n (p + 1) else if p = T.length then (p, some []) else (p, none)
theorem pR_s {T : List Int32} {n p : Nat} : pR T (n + 1) p = pb (pO T p) fun p1 a => pb (pT T n p1) fun p2 os => (p2, some (a :: os)) := by
  show pb (pO T p) _ = _
  congr 1
  funext p1 a
  unfold pT
  by_cases e : hereT T p1 = 59
  · rw [if_pos e, if_pos e]
  · rw [if_neg e, if_neg e]
    by_cases e2 : p1 = T.length
    · rw [if_pos e2, if_pos e2]; rfl
    · rw [if_neg e2, if_neg e2]; rfl
theorem pT_59 {T : List Int32} {n p : Nat} (e : hereT T p = 59) : pT T (n + 1) p = pb (pO T (p + 1)) fun p1 a => pb (pT T n p1) fun p2 os => (p2, some (a :: os)) := by
  unfold pT
  rw [if_pos e, pR_s]
  rfl
/-- the list of orders as it stands, made since h0 -/
def OS (ka : Nat → Nat) (h0 h : HP) (lq : Nat) (os : List Ord1) : Prop := ∃ nd it, LkS h lq nd it os.length ∧ (∀ i a, os[i]? = some a → h (it i) = some (bOr ka a)) ∧ h0 lq = none ∧ ∀ i, i < os.length → h0 (nd i) = none
def prQ (ka : Nat → Nat) (h0 : HP) (rd lq : Nat) (l : List Ord1) (b : Nat × Option (List Ord1)) : Oc → HP → Prop := fun o h' => match o with
  | .inl v => ∃ os, b.2 = some os ∧ v = some (.ref lq) ∧ OS ka h0 h' lq (l ++ os) ∧ fR rd h0 h'
  | .inr q => b.2 = none ∧ wrF h0 rd b.1 q h'
theorem kd_r {h : HP} {rd z wa tx p : Nat} {b : Bd} (hr : h rd = some (bRd wa tx p)) (hb : h z = some b) (hk : kd b ≠ 8) : z ≠ rd := kd_ne hb hr hk
theorem OS_add {ka : Nat → Nat} {h0 h h1 h2 : HP} {lq q qn wa tx p rd : Nat} {l : List Ord1} {a : Ord1} {nd it : Nat → Nat} (hr : h rd = some (bRd wa tx p)) (hL0 : LkS h1 lq nd it l.length) (hit : ∀ i x, l[i]? = some x → h (it i) = some (bOr ka x)) (h0q : h0 lq = none) (h0n : ∀ i, i < l.length → h0 (nd i) = none) (hf : fR rd h h1) (hx : fR rd h0 h1) (hq : h1 q = some (bOr ka a)) (hn : h1 qn = none) (hr1 : ∃ b, h1 rd = some b) (hL : LkS h2 lq (upN nd l.length qn) (upN it l.length q) (l.length + 1)) (hf2 : ∀ z b, z ≠ lq → (∀ i, i < l.length → z ≠ nd i) → h1 z = some b → h2 z = some b) : OS ka h0 h2 lq (l ++ [a]) := by
  have k2 : ∀ z b, kd b = 9 → h1 z = some b → h2 z = some b := fun z b hk hb => hf2 z b (kd_ne hb hL0.1 (by rw [hk]; show 9 ≠ 11; decide)) (fun i hi => kd_ne hb (hL0.2.1 i hi) (by rw [hk]; show 9 ≠ 18; decide)) hb
  refine ⟨_, _, by rw [List.length_append]; exact hL, fun i x hxx => ?_, h0q, fun i hi => ?_⟩
  · by_cases e : i < l.length
    · rw [List.getElem?_append_left e] at hxx
      have := hit i x hxx
      rw [upN_n (by omega)]
      exact k2 _ _ rfl (hf _ _ (kd_r hr this (show 9 ≠ 8 by decide)) this)
    · rw [List.getElem?_append_right (by omega)] at hxx
      have e4 : i = l.length := by
        by_cases e5 : i = l.length
        · exact e5
        · obtain ⟨m, hm⟩ : ∃ m, i - l.length = m + 1 := ⟨i - l.length - 1, by omega⟩
          rw [hm] at hxx
          cases hxx
      subst e4
      rw [Nat.sub_self] at hxx
      rw [upN_s, ← Option.some.inj hxx]
      exact k2 _ _ rfl hq
  · rw [List.length_append] at hi
    have hi2 : i < l.length + 1 := hi
    by_cases e : i = l.length
    · rw [e, upN_s]
      cases e2 : h0 qn with
      | none => rfl
      | some b =>
        obtain ⟨c, hc⟩ := hr1
        rw [hx qn b (fun e3 => by rw [e3, hc] at hn; cases hn) e2] at hn
        cases hn
    · rw [upN_n e]
      exact h0n i (by omega)
set_option maxHeartbeats 4000000 in
set_option maxRecDepth 100000 in
theorem lp_orders {G : GG} (hT : KT G) {ka : Nat → Nat} (hKC : KC G ka) {rd wa tx r N lq : Nat} {T : List Int32} {h0 : HP} : ∀ (f p : Nat) (H : HP) (l : List Ord1), RDh ka H rd wa tx r N T p → OS ka h0 H lq l → fR rd h0 H → l.length ≤ p → T.length ≤ p + f → V G 9 M_X8_orders 16 [(1, .ref lq), (0, .ref rd)] [] H (150 * f + 20) (prQ ka h0 rd lq l (pT T f p)) := by
  intro f
  induction f with
  | zero =>
    intro p H l hR hO hx hlp hf
    have hp := hR.2.2.2.2
    first | refine r_aload_n dX8_orders_16 rfl ?_ | refine r_aload_nq dX8_orders_16 rfl ?_ | refine r_aload_nN dX8_orders_16 rfl ?_
    refine r_bipush (v := 59) dX8_orders_17 rfl ?_
    refine r_invV dX8_orders_19 (sp_takes_f hT hKC hR) rfl mo_X8_takes (Or.inl hR.1) rfl (lkA q1545) (lkA q1547) (lkA qs24) rfl (lkA q103) mp_X8_takes (Nat.le_of_ble_eq_true rfl) (Nat.le_of_ble_eq_true rfl) (Nat.le_of_ble_eq_true rfl) (kr_e ?_) kx_e
    refine r_if_eq 36 dX8_orders_22 rfl (fun c22 => ?_) (fun c22 => ?_)
    · have c22' : ¬ hereT T p = 59 := of_decide_eq_false (bi_0.mp c22)
      rw [if_neg c22', ← hu_same hR.1]
      first | refine r_aload_n dX8_orders_36 rfl ?_ | refine r_aload_nq dX8_orders_36 rfl ?_ | refine r_aload_nN dX8_orders_36 rfl ?_
      first | refine r_aload_n dX8_orders_37 rfl ?_ | refine r_aload_nq dX8_orders_37 rfl ?_ | refine r_aload_nN dX8_orders_37 rfl ?_
      refine r_getfield 8 2 dX8_orders_38 rfl (Nat.le_of_ble_eq_true rfl) (lkA q1472) (Or.inl rfl) (Or.inl hR.1) (by rfl) ?_
      first | refine r_aload_n dX8_orders_41 rfl ?_ | refine r_aload_nq dX8_orders_41 rfl ?_ | refine r_aload_nN dX8_orders_41 rfl ?_
      refine r_getfield 8 1 dX8_orders_42 rfl (Nat.le_of_ble_eq_true rfl) (lkA q1471) (Or.inl rfl) (Or.inl hR.1) (by rfl) ?_
      refine r_invF dX8_orders_45 (sp_J11_length hR.2.2.1) rfl mo_J11_length (Or.inl hR.2.2.1.choose_spec.choose_spec.1) rfl (lkA q1501) ⟨q1503, q1502, q1511, q1510, q1508⟩ ⟨by decide +kernel, by decide +kernel⟩ (lkA q1509) (lkA q786) rfl (show _ = some 0 from by decide +kernel) (lkA q79) mp_J11_length (Nat.le_of_ble_eq_true rfl) (Nat.le_of_ble_eq_true rfl) (Nat.le_of_ble_eq_true rfl) (kr_e ?_) kx_e
      refine r_icmp_ne 57 dX8_orders_50 rfl (fun c50 => ?_) (fun c50 => ?_)
      · refine r_iconst (v := 0) dX8_orders_57 rfl ?_
        refine r_invV dX8_orders_58 (sp_needs_f hT hKC hR) rfl mo_X8_needs (Or.inl hR.1) rfl (lkA q1549) (lkA q1551) (lkA qs25) rfl (lkA q103) mp_X8_needs (Nat.le_of_ble_eq_true rfl) (Nat.le_of_ble_eq_true rfl) (Nat.le_of_ble_eq_true rfl) (fun v9 h9 p9 => ?_) (fun q9 h9 ci9 fs9 p9 hq9 => (r_out hq9 rfl (by rw [show pT T 0 p = (p, none) by unfold pT; rw [if_neg c22', if_neg (fun e => c50 (by rw [e]))]]; exact ⟨rfl, by rw [p9.2.2]; exact hu_s, fun z b hz hb => by rw [p9.2.2]; exact hu_o p9.2.1 (hx z b hz hb)⟩)))
        exact absurd rfl p9.1
      · refine r_iconst (v := 1) dX8_orders_53 rfl ?_
        refine r_goto 58 dX8_orders_54 rfl ?_
        refine r_invV dX8_orders_58 (sp_needs_f hT hKC hR) rfl mo_X8_needs (Or.inl hR.1) rfl (lkA q1549) (lkA q1551) (lkA qs25) rfl (lkA q103) mp_X8_needs (Nat.le_of_ble_eq_true rfl) (Nat.le_of_ble_eq_true rfl) (Nat.le_of_ble_eq_true rfl) (fun v9 h9 p9 => ?_) (fun q9 h9 ci9 fs9 p9 hq9 => (absurd p9.1 (by decide)))
        obtain ⟨-, rfl, rfl⟩ := p9
        first | refine r_aload_n dX8_orders_61 rfl ?_ | refine r_aload_nq dX8_orders_61 rfl ?_ | refine r_aload_nN dX8_orders_61 rfl ?_
        first | exact r_areturn dX8_orders_62 rfl rfl ⟨[], by rw [show pT T 0 p = (p, some []) by unfold pT; rw [if_neg c22', if_pos ((nJ_eq (by have := hR.2.2.2; omega) (by have := hR.2.2.2; omega)).mp c50)]], rfl, by rw [List.append_nil]; exact hO, hx⟩ | exact r_areturnq dX8_orders_62 rfl rfl ⟨[], by rw [show pT T 0 p = (p, some []) by unfold pT; rw [if_neg c22', if_pos ((nJ_eq (by have := hR.2.2.2; omega) (by have := hR.2.2.2; omega)).mp c50)]], rfl, by rw [List.append_nil]; exact hO, hx⟩ | exact r_areturnN dX8_orders_62 rfl rfl ⟨[], by rw [show pT T 0 p = (p, some []) by unfold pT; rw [if_neg c22', if_pos ((nJ_eq (by have := hR.2.2.2; omega) (by have := hR.2.2.2; omega)).mp c50)]], rfl, by rw [List.append_nil]; exact hO, hx⟩
    · exact absurd (here_e (of_decide_eq_true (bi_n0.mp c22)) (by decide)) (by omega)
  | succ f ih =>
    intro p H l hR hO hx hlp hf
    have hp := hR.2.2.2.2
    first | refine r_aload_n dX8_orders_16 rfl ?_ | refine r_aload_nq dX8_orders_16 rfl ?_ | refine r_aload_nN dX8_orders_16 rfl ?_
    refine r_bipush (v := 59) dX8_orders_17 rfl ?_
    refine r_invV dX8_orders_19 (sp_takes_f hT hKC hR) rfl mo_X8_takes (Or.inl hR.1) rfl (lkA q1545) (lkA q1547) (lkA qs24) rfl (lkA q103) mp_X8_takes (Nat.le_of_ble_eq_true rfl) (Nat.le_of_ble_eq_true rfl) (Nat.le_of_ble_eq_true rfl) (kr_e ?_) kx_e
    refine r_if_eq 36 dX8_orders_22 rfl (fun c22 => ?_) (fun c22 => ?_)
    · have c22' : ¬ hereT T p = 59 := of_decide_eq_false (bi_0.mp c22)
      rw [if_neg c22', ← hu_same hR.1]
      first | refine r_aload_n dX8_orders_36 rfl ?_ | refine r_aload_nq dX8_orders_36 rfl ?_ | refine r_aload_nN dX8_orders_36 rfl ?_
      first | refine r_aload_n dX8_orders_37 rfl ?_ | refine r_aload_nq dX8_orders_37 rfl ?_ | refine r_aload_nN dX8_orders_37 rfl ?_
      refine r_getfield 8 2 dX8_orders_38 rfl (Nat.le_of_ble_eq_true rfl) (lkA q1472) (Or.inl rfl) (Or.inl hR.1) (by rfl) ?_
      first | refine r_aload_n dX8_orders_41 rfl ?_ | refine r_aload_nq dX8_orders_41 rfl ?_ | refine r_aload_nN dX8_orders_41 rfl ?_
      refine r_getfield 8 1 dX8_orders_42 rfl (Nat.le_of_ble_eq_true rfl) (lkA q1471) (Or.inl rfl) (Or.inl hR.1) (by rfl) ?_
      refine r_invF dX8_orders_45 (sp_J11_length hR.2.2.1) rfl mo_J11_length (Or.inl hR.2.2.1.choose_spec.choose_spec.1) rfl (lkA q1501) ⟨q1503, q1502, q1511, q1510, q1508⟩ ⟨by decide +kernel, by decide +kernel⟩ (lkA q1509) (lkA q786) rfl (show _ = some 0 from by decide +kernel) (lkA q79) mp_J11_length (Nat.le_of_ble_eq_true rfl) (Nat.le_of_ble_eq_true rfl) (Nat.le_of_ble_eq_true rfl) (kr_e ?_) kx_e
      refine r_icmp_ne 57 dX8_orders_50 rfl (fun c50 => ?_) (fun c50 => ?_)
      · refine r_iconst (v := 0) dX8_orders_57 rfl ?_
        refine r_invV dX8_orders_58 (sp_needs_f hT hKC hR) rfl mo_X8_needs (Or.inl hR.1) rfl (lkA q1549) (lkA q1551) (lkA qs25) rfl (lkA q103) mp_X8_needs (Nat.le_of_ble_eq_true rfl) (Nat.le_of_ble_eq_true rfl) (Nat.le_of_ble_eq_true rfl) (fun v9 h9 p9 => ?_) (fun q9 h9 ci9 fs9 p9 hq9 => (r_out hq9 rfl (by rw [show pT T (f + 1) p = (p, none) by unfold pT; rw [if_neg c22', if_neg (fun e => c50 (by rw [e]))]]; exact ⟨rfl, by rw [p9.2.2]; exact hu_s, fun z b hz hb => by rw [p9.2.2]; exact hu_o p9.2.1 (hx z b hz hb)⟩)))
        exact absurd rfl p9.1
      · refine r_iconst (v := 1) dX8_orders_53 rfl ?_
        refine r_goto 58 dX8_orders_54 rfl ?_
        refine r_invV dX8_orders_58 (sp_needs_f hT hKC hR) rfl mo_X8_needs (Or.inl hR.1) rfl (lkA q1549) (lkA q1551) (lkA qs25) rfl (lkA q103) mp_X8_needs (Nat.le_of_ble_eq_true rfl) (Nat.le_of_ble_eq_true rfl) (Nat.le_of_ble_eq_true rfl) (fun v9 h9 p9 => ?_) (fun q9 h9 ci9 fs9 p9 hq9 => (absurd p9.1 (by decide)))
        obtain ⟨-, rfl, rfl⟩ := p9
        first | refine r_aload_n dX8_orders_61 rfl ?_ | refine r_aload_nq dX8_orders_61 rfl ?_ | refine r_aload_nN dX8_orders_61 rfl ?_
        first | exact r_areturn dX8_orders_62 rfl rfl ⟨[], by rw [show pT T (f + 1) p = (p, some []) by unfold pT; rw [if_neg c22', if_pos ((nJ_eq (by have := hR.2.2.2; omega) (by have := hR.2.2.2; omega)).mp c50)]], rfl, by rw [List.append_nil]; exact hO, hx⟩ | exact r_areturnq dX8_orders_62 rfl rfl ⟨[], by rw [show pT T (f + 1) p = (p, some []) by unfold pT; rw [if_neg c22', if_pos ((nJ_eq (by have := hR.2.2.2; omega) (by have := hR.2.2.2; omega)).mp c50)]], rfl, by rw [List.append_nil]; exact hO, hx⟩ | exact r_areturnN dX8_orders_62 rfl rfl ⟨[], by rw [show pT T (f + 1) p = (p, some []) by unfold pT; rw [if_neg c22', if_pos ((nJ_eq (by have := hR.2.2.2; omega) (by have := hR.2.2.2; omega)).mp c50)]], rfl, by rw [List.append_nil]; exact hO, hx⟩
    · have c22' : hereT T p = 59 := of_decide_eq_true (bi_n0.mp c22)
      have hpl := here_e c22' (by decide)
      rw [if_pos c22']
      obtain ⟨nd, it, hL, hit, h0q, h0n⟩ := hO
      have hR1 := RDh_fr (p' := p + 1) hR (fun z b hz hb => (hu_n hz).trans hb) hu_s hpl
      have hpo := pO_le (p := p + 1) hpl
      have hT60 := hR.2.2.2.1
      have fR1 : fR rd H (hu H rd (bRd wa tx (p + 1))) := fun z b hz hb => (hu_n hz).trans hb
      rw [pT_59 c22']
      first | refine r_aload_n dX8_orders_25 rfl ?_ | refine r_aload_nq dX8_orders_25 rfl ?_ | refine r_aload_nN dX8_orders_25 rfl ?_
      first | refine r_aload_n dX8_orders_26 rfl ?_ | refine r_aload_nq dX8_orders_26 rfl ?_ | refine r_aload_nN dX8_orders_26 rfl ?_
      refine r_invV dX8_orders_27 (sp_order_f hT hKC hR1) rfl mo_X8_order (Or.inl hR1.1) rfl (lkA q1486) (lkA q1488) (lkA qs21) rfl (lkA q103) mp_X8_order (Nat.le_of_ble_eq_true rfl) (by omega) (Nat.le_of_ble_eq_true rfl) (fun v9 h9 p9 => ?_) (fun q9 h9 ci9 fs9 p9 hq9 => (r_out hq9 rfl (by rw [pb_n p9.1]; exact ⟨rfl, p9.2.1, fun z b hz hb => p9.2.2 z b hz (fR1 z b hz (hx z b hz hb))⟩)))
      obtain ⟨a, q, ha, rfl, hqa, hrd9, hf9⟩ := p9
      rw [pb_s ha]
      try dsimp only
      have hf9' : fR rd H h9 := fun z b hz hb => hf9 z b hz (fR1 z b hz hb)
      have hL9 := LkS_fr hL (fun z b hk hb => hf9' z b (kd_r hR.1 hb (by rcases hk with e | e <;> rw [e] <;> decide)) hb)
      have hx9 : fR rd h0 h9 := fun z b hz hb => hf9' z b hz (hx z b hz hb)
      refine r_invV dX8_orders_30 (sp_LkS_add hL9 (by omega)) rfl mo_J4_addLast (Or.inl hL9.1) rfl (lkA q1663) (lkA q1013) (lkA q1014) rfl (lkA q70) mp_J4_addLast (Nat.le_of_ble_eq_true rfl) (by omega) (Nat.le_of_ble_eq_true rfl) (kr_r (fun v9 h10 p9 => ?_)) kx_r
      obtain ⟨rfl, qn, hqn, hL2, hf2⟩ := p9
      have hO2 := OS_add hR.1 hL9 hit h0q h0n hf9' hx9 hqa hqn ⟨_, hrd9⟩ hL2 hf2
      have k2 : ∀ z b, kd b ≠ 11 → kd b ≠ 18 → h9 z = some b → h10 z = some b := fun z b k11 k18 hb => hf2 z b (kd_ne hb hL9.1 k11) (fun i hi => kd_ne hb (hL9.2.1 i hi) k18) hb
      have hx10 : fR rd h0 h10 := fun z b hz hb => hf2 z b (fun e => by rw [e, h0q] at hb; cases hb) (fun i hi e => by rw [e, h0n i hi] at hb; cases hb) (hx9 z b hz hb)
      refine r_goto 16 dX8_orders_33 rfl ?_
      refine V_loc (L' := [(1, .ref lq), (0, .ref rd)]) ⟨rfl, rfl, trivial⟩ ?_
      have hR2 : RDh ka h10 rd wa tx r N T (pO T (p + 1)).1 := by
        obtain ⟨q1, q2, ⟨m, g, q3, q4, q5⟩, q6, q7⟩ := RDh_fr hR1 hf9 hrd9 hpo.2
        exact ⟨k2 _ _ (show 8 ≠ 11 by decide) (show 8 ≠ 18 by decide) q1, k2 _ _ (show 1007 ≠ 11 by decide) (show 1007 ≠ 18 by decide) q2, ⟨m, g, k2 _ _ (show 14 ≠ 11 by decide) (show 14 ≠ 18 by decide) q3, k2 _ _ (show 101 ≠ 11 by decide) (show 101 ≠ 18 by decide) q4, q5⟩, q6, q7⟩
      refine ((ih (pO T (p + 1)).1 h10 (l ++ [a]) hR2 hO2 hx10 (by rw [List.length_append]; show l.length + 1 ≤ _; omega) (by omega)).less (by omega)).mono (fun o h' hq => ?_)
      rcases o with v | z
      · obtain ⟨os, h1, h2, h3, h4⟩ := hq
        exact ⟨a :: os, by rw [pb_s h1], h2, by rw [List.append_assoc] at h3; exact h3, by first | exact h4⟩
      · exact ⟨by rw [pb_n hq.1], by rw [pb_n hq.1]; exact hq.2⟩

def psQ (ka : Nat → Nat) (h0 : HP) (rd : Nat) (b : Nat × Option (List Ord1)) : Oc → HP → Prop := fun o h' => match o with
  | .inl v => ∃ os lq, b.2 = some os ∧ v = some (.ref lq) ∧ OS ka h0 h' lq os ∧ fR rd h0 h'
  | .inr q => b.2 = none ∧ wrF h0 rd b.1 q h'
theorem pX_p {T l : List Int32} : ∀ (n i p : Nat), (pX T l n i p).2 = true → (pX T l n i p).1 = p + n := by
  intro n
  induction n with
  | zero => intro i p _; rfl
  | succ n ih =>
    intro i p h
    by_cases e : hereT T p = l.getD i 0
    · rw [pX_s, if_pos e] at h ⊢
      rw [ih (i + 1) (p + 1) h]
      omega
    · rw [pX_s, if_neg e] at h
      cases h
theorem pO_1 {T : List Int32} {p : Nat} {a : Ord1} (h : (pO T p).2 = some a) : p + 1 ≤ (pO T p).1 := by
  by_cases hp : p ≤ T.length
  · cases e : (pW T p).2 with
    | none =>
      have : pO T p = ((pW T p).1, none) := pb_n e
      rw [this] at h
      cases h
    | some k =>
      have e1 : pO T p = pA T k (pW T p).1 := pb_s e
      have e2 := (pA_le (k := k) (pW_le hp).2).1
      have e3 : (pW T p).1 = p + (kch k).length ∧ k < 7 := by
        have h7 := pW_7 e
        unfold pW at e ⊢
        cases e4 : fK (hereT T p) with
        | none => rw [e4] at e; cases e
        | some j =>
          rw [e4] at e
          have e5 : (if (pX T (kch j) (kch j).length 0 p).2 = true then some j else none) = some k := e
          by_cases e6 : (pX T (kch j) (kch j).length 0 p).2 = true
          · rw [if_pos e6] at e5
            have e7 := Option.some.inj e5
            subst e7
            exact ⟨pX_p _ 0 p e6, h7⟩
          · rw [if_neg e6] at e5; cases e5
      have e4 := of_decide_eq_true (allB_at (n := 7) (p := fun k => decide (0 < (kch k).length)) (by decide +kernel) k e3.2)
      rw [e1]
      omega
  · exfalso
    have e0 : hereT T p = -11 := if_neg (by omega)
    have e1 : pW T p = (p, none) := by
      unfold pW
      rw [e0]
      rfl
    have : pO T p = (p, none) := by
      show pb (pW T p) _ = _
      rw [e1]
      rfl
    rw [this] at h
    cases h
set_option maxHeartbeats 4000000 in
set_option maxRecDepth 100000 in
theorem sp_X8_orders {G : GG} {h : HP} (hT : KT G) {ka : Nat → Nat} (hKC : KC G ka) {rd wa tx r N : Nat} {T : List Int32} (hR : RDh ka h rd wa tx r N T 0) : Ct G 9 9300 M_X8_orders [.ref rd] h (psQ ka h rd (pR T (T.length + 1) 0)) := by
  refine ct_intro my_X8_orders (Nat.le_of_ble_eq_true rfl) ?_
  refine r_new 11 [.int 0, .int 0, .null, .null] dX8_orders_0 rfl (lkA q1484) (lkA q156) (lkA q70) (fun j hj => match j, hj with | 0, _ => rfl | 1, _ => rfl | 2, _ => rfl | 3, _ => rfl | k + 4, hk => absurd hk (Nat.not_lt.mpr (Nat.le_add_left 4 k))) (Nat.le_of_ble_eq_true rfl) (fun q0 hq0 => ?_)
  refine r_dup dX8_orders_3 rfl ?_
  refine r_invI dX8_orders_4 (sp_J4_init hu_s) rfl mo_J4_init (lkA q1485) (lkA q158) rfl rfl rfl (lkA q70) mp_J4_init (Nat.le_of_ble_eq_true rfl) (Nat.le_of_ble_eq_true rfl) (Nat.le_of_ble_eq_true rfl) (kr_e ?_) kx_e
  try simp only [hu_hu]
  have hR1 : RDh ka (hu h q0 (bO 11 [.int 0, .int 0, .null, .null])) rd wa tx r N T 0 := RDh_fr hR (fun z b _ hb => hu_o hq0 hb) (hu_o hq0 hR.1) (Nat.zero_le _)
  have hL0 : LkS (hu h q0 (bO 11 [.int 0, .int 0, .null, .null])) q0 (fun _ => 0) (fun _ => 0) 0 := ⟨hu_s, fun i hi => absurd hi (Nat.not_lt_zero i), fun i j hi => absurd hi (Nat.not_lt_zero i)⟩
  have fR1 : fR rd h (hu h q0 (bO 11 [.int 0, .int 0, .null, .null])) := fun z b _ hb => hu_o hq0 hb
  have hpo := pO_le (T := T) (p := 0) (Nat.zero_le _)
  have hT60 := hR.2.2.2.1
  first | refine r_astore_n dX8_orders_7 (Nat.le_of_ble_eq_true rfl) ?_ | refine r_astore_nq dX8_orders_7 (Nat.le_of_ble_eq_true rfl) ?_ | refine r_astore_nN dX8_orders_7 (Nat.le_of_ble_eq_true rfl) ?_
  first | refine r_aload_n dX8_orders_8 rfl ?_ | refine r_aload_nq dX8_orders_8 rfl ?_ | refine r_aload_nN dX8_orders_8 rfl ?_
  first | refine r_aload_n dX8_orders_9 rfl ?_ | refine r_aload_nq dX8_orders_9 rfl ?_ | refine r_aload_nN dX8_orders_9 rfl ?_
  refine r_invV dX8_orders_10 (sp_order_f hT hKC hR1) rfl mo_X8_order (Or.inl hR1.1) rfl (lkA q1486) (lkA q1488) (lkA qs21) rfl (lkA q103) mp_X8_order (Nat.le_of_ble_eq_true rfl) (Nat.le_of_ble_eq_true rfl) (Nat.le_of_ble_eq_true rfl) (fun v9 h9 p9 => ?_) (fun q9 h9 ci9 fs9 p9 hq9 => (r_out hq9 rfl (by rw [pR_s, pb_n p9.1]; exact ⟨rfl, p9.2.1, fun z b hz hb => p9.2.2 z b hz (fR1 z b hz hb)⟩)))
  obtain ⟨a, q, ha, rfl, hqa, hrd9, hf9⟩ := p9
  have hx9 : fR rd h h9 := fun z b hz hb => hf9 z b hz (fR1 z b hz hb)
  have hL9 : LkS h9 q0 (fun _ => 0) (fun _ => 0) ([] : List Ord1).length := LkS_fr hL0 (fun z b hk hb => hf9 z b (kd_r hR1.1 hb (by rcases hk with e | e <;> rw [e] <;> decide)) hb)
  refine r_invV dX8_orders_13 (sp_LkS_add hL9 (by decide)) rfl mo_J4_addLast (Or.inl hL9.1) rfl (lkA q1663) (lkA q1013) (lkA q1014) rfl (lkA q70) mp_J4_addLast (Nat.le_of_ble_eq_true rfl) (Nat.le_of_ble_eq_true rfl) (Nat.le_of_ble_eq_true rfl) (kr_r (fun v9 h10 p9 => ?_)) kx_r
  obtain ⟨rfl, qn, hqn, hL2, hf2⟩ := p9
  have hO2 := OS_add (h0 := h) hR1.1 hL9 (fun i x hx => by cases hx) hq0 (fun i hi => absurd hi (Nat.not_lt_zero i)) hf9 hx9 hqa hqn ⟨_, hrd9⟩ hL2 hf2
  have k2 : ∀ z b, kd b ≠ 11 → kd b ≠ 18 → h9 z = some b → h10 z = some b := fun z b k11 k18 hb => hf2 z b (kd_ne hb hL9.1 k11) (fun i hi => kd_ne hb (hL9.2.1 i hi) k18) hb
  have hx10 : fR rd h h10 := fun z b hz hb => hf2 z b (fun e => by rw [e, hq0] at hb; cases hb) (fun i hi => absurd hi (Nat.not_lt_zero i)) (hx9 z b hz hb)
  refine V_loc (L' := [(1, .ref q0), (0, .ref rd)]) ⟨rfl, rfl, trivial⟩ ?_
  have hR2 : RDh ka h10 rd wa tx r N T (pO T 0).1 := by
    obtain ⟨q1, q2, ⟨m, g, q3, q4, q5⟩, q6, q7⟩ := RDh_fr hR1 hf9 hrd9 hpo.2
    exact ⟨k2 _ _ (show 8 ≠ 11 by decide) (show 8 ≠ 18 by decide) q1, k2 _ _ (show 1007 ≠ 11 by decide) (show 1007 ≠ 18 by decide) q2, ⟨m, g, k2 _ _ (show 14 ≠ 11 by decide) (show 14 ≠ 18 by decide) q3, k2 _ _ (show 101 ≠ 11 by decide) (show 101 ≠ 18 by decide) q4, q5⟩, q6, q7⟩
  refine V.less (c' := 9020) ?_ (Nat.le_of_ble_eq_true rfl)
  refine (V.less (c := 9020) (lp_orders hT hKC (T.length) (pO T 0).1 h10 ([] ++ [a]) hR2 hO2 hx10 (pO_1 ha) (by omega)) (by omega)).mono (fun o h' hq => ?_)
  rw [pR_s, pb_s ha]
  rcases o with v | z
  · obtain ⟨os, h1, h2, h3, h4⟩ := hq
    exact ⟨a :: os, q0, by rw [pb_s h1], h2, h3, h4⟩
  · exact ⟨by rw [pb_n hq.1], by rw [pb_n hq.1]; exact hq.2⟩

