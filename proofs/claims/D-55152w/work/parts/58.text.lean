set_option maxRecDepth 100000
def ktx (k : Nat) : String := match k with
  | 0 => "go "
  | 1 => "ring "
  | 2 => "pet "
  | 3 => "take "
  | 4 => "back "
  | 5 => "soles "
  | 6 => "day"
  | 7 => "!"
  | 8 => ""
  | 9 => "d"
  | 10 => "@"
  | 11 => " h"
  | 12 => " o"
  | 13 => " w"
  | 14 => " ~"
  | 15 => "+"
  | 16 => ">"
  | 17 => " "
  | 18 => "="
  | 19 => ";"
  | _ => ""
def kch (k : Nat) : List Int32 := match k with
  | 0 => [103, 111, 32]
  | 1 => [114, 105, 110, 103, 32]
  | 2 => [112, 101, 116, 32]
  | 3 => [116, 97, 107, 101, 32]
  | 4 => [98, 97, 99, 107, 32]
  | 5 => [115, 111, 108, 101, 115, 32]
  | 6 => [100, 97, 121]
  | 7 => [33]
  | 8 => []
  | 9 => [100]
  | 10 => [64]
  | 11 => [32, 104]
  | 12 => [32, 111]
  | 13 => [32, 119]
  | 14 => [32, 126]
  | 15 => [43]
  | 16 => [62]
  | 17 => [32]
  | 18 => [61]
  | 19 => [59]
  | _ => []
def khs (k : Nat) : Int32 := match k with
  | 0 => 102456
  | 1 => 108518384
  | 2 => 3437281
  | 3 => 110124153
  | 4 => 93493273
  | 5 => -896786014
  | 6 => 99228
  | 7 => 33
  | 8 => 0
  | 9 => 100
  | 10 => 64
  | 11 => 1096
  | 12 => 1103
  | 13 => 1111
  | 14 => 1118
  | 15 => 43
  | 16 => 62
  | 17 => 32
  | 18 => 61
  | 19 => 59
  | _ => 0
def kta (k : Nat) : String × Nat × Nat := match k with
  | 0 => ("BrushSellers", 30, 8)
  | 1 => ("BrushSellers$House", 49, 7)
  | 2 => ("BrushSellers$House", 51, 8)
  | 3 => ("BrushSellers$House", 53, 9)
  | 4 => ("BrushSellers$Order", 31, 0)
  | 5 => ("BrushSellers$Order", 37, 1)
  | 6 => ("BrushSellers$Order", 39, 2)
  | 7 => ("BrushSellers$Order", 41, 3)
  | 8 => ("BrushSellers$Order", 43, 4)
  | 9 => ("BrushSellers$Order", 45, 5)
  | 10 => ("BrushSellers$Reader", 11, 0)
  | 11 => ("BrushSellers$Reader", 13, 1)
  | 12 => ("BrushSellers$Reader", 15, 2)
  | 13 => ("BrushSellers$Reader", 17, 3)
  | 14 => ("BrushSellers$Reader", 19, 4)
  | 15 => ("BrushSellers$Reader", 21, 5)
  | 16 => ("BrushSellers$Reader", 23, 6)
  | 17 => ("BrushSellers$Seller", 46, 10)
  | 18 => ("BrushSellers$Seller", 55, 11)
  | 19 => ("BrushSellers$Seller", 57, 12)
  | 20 => ("BrushSellers$Seller", 59, 13)
  | 21 => ("BrushSellers$Seller", 61, 14)
  | 22 => ("BrushSellersModel", 163, 15)
  | 23 => ("BrushSellersModel", 175, 0)
  | 24 => ("BrushSellersModel", 177, 16)
  | 25 => ("BrushSellersModel", 179, 1)
  | 26 => ("BrushSellersModel", 181, 17)
  | 27 => ("BrushSellersModel", 183, 18)
  | 28 => ("BrushSellersModel", 185, 2)
  | 29 => ("BrushSellersModel", 187, 3)
  | 30 => ("BrushSellersModel", 192, 4)
  | 31 => ("BrushSellersModel", 194, 5)
  | 32 => ("BrushSellersModel", 196, 6)
  | 33 => ("BrushSellersModel", 202, 19)
  | 34 => ("BrushSellersModel", 217, 10)
  | 35 => ("BrushSellersModel", 223, 11)
  | 36 => ("BrushSellersModel", 225, 12)
  | 37 => ("BrushSellersModel", 227, 13)
  | 38 => ("BrushSellersModel", 229, 14)
  | 39 => ("BrushSellersModel", 231, 7)
  | 40 => ("BrushSellersModel", 233, 9)
  | _ => ("BrushSellers", 30, 8)
/-- the String constants: ka k is the address of the text no k -/
def KC (G : GG) (ka : Nat → Nat) : Prop := (∀ i, i < 41 → Str G (kta i).1 (kta i).2.1 (ktx (kta i).2.2) (ka (kta i).2.2)) ∧ ∀ k, k < 20 → ∃ (v : Nat) (y : Value) (f : Nat → Int32), KK G (ka k) (bO 15 [.ref v, .int 0, .int (khs k), y]) ∧ KK G v (bI 1 (kch k).length f) ∧ ∀ j, j < (kch k).length → f j = (kch k).getD j 0
def allB (n : Nat) (p : Nat → Bool) : Bool := match n with
  | 0 => true
  | n + 1 => p n && allB n p
theorem allB_at {n : Nat} {p : Nat → Bool} (h : allB n p = true) : ∀ k, k < n → p k = true := by
  induction n with
  | zero => intro k hk; exact absurd hk (Nat.not_lt_zero k)
  | succ n ih =>
    intro k hk
    have h2 : (p n && allB n p) = true := h
    rw [Bool.and_eq_true] at h2
    by_cases e : k = n
    · rw [e]; exact h2.1
    · exact ih h2.2 k (by omega)
theorem kch_a : ∀ k, k < 20 → ∀ j, j < 6 → j < (kch k).length → asc ((kch k).getD j 0) := by
  intro k hk j hj hl
  have h := allB_at (n := 6) (allB_at (n := 20) (p := fun k => allB 6 (fun j => decide (j < (kch k).length → 0 ≤ ((kch k).getD j 0).toInt ∧ ((kch k).getD j 0).toInt ≤ 127))) (by decide +kernel) k hk) j hj
  exact of_decide_eq_true h hl
theorem kch_l : ∀ k, k < 20 → (kch k).length ≤ 6 := by
  intro k hk
  exact of_decide_eq_true (allB_at (n := 20) (p := fun k => decide ((kch k).length ≤ 6)) (by decide +kernel) k hk)
/-- a String that stands, with its signs -/
def ST (G : GG) (h : HP) (s : Nat) (l : List Int32) : Prop := ∃ (v : Nat) (x y : Value) (f : Nat → Int32), Has G h s (bO 15 [.ref v, .int 0, x, y]) ∧ Has G h v (bI 1 l.length f) ∧ (∀ j, j < l.length → f j = l.getD j 0) ∧ (∀ j, j < l.length → asc (l.getD j 0)) ∧ l.length ≤ 130
theorem ST_k {G : GG} {ka : Nat → Nat} (hC : KC G ka) (h : HP) (k : Nat) (hk : k < 20) : ST G h (ka k) (kch k) := by
  obtain ⟨v, y, f, h1, h2, h3⟩ := hC.2 k hk
  have := kch_l k hk
  exact ⟨v, _, y, f, Or.inr h1, Or.inr h2, h3, fun j hj => kch_a k hk j (by omega) hj, by omega⟩
theorem ST_fr {G : GG} {h h' : HP} {s : Nat} {l : List Int32} (hS : ST G h s l) (hf : ∀ q b, kd b = 15 ∨ kd b = 101 → h q = some b → h' q = some b) : ST G h' s l := by
  obtain ⟨v, x, y, f, h1, h2, h3⟩ := hS
  exact ⟨v, x, y, f, h1.imp (hf _ _ (Or.inl rfl)) id, h2.imp (hf _ _ (Or.inr rfl)) id, h3⟩
theorem ST_ext {G : GG} {h h' : HP} {s : Nat} {l : List Int32} (hS : ST G h s l) (hx : Ext h h') : ST G h' s l := ST_fr hS fun q b _ hb => hx q b hb
/-- a constant is no cell of ours -/
theorem Ct_kn {G : GG} {d c : Nat} {M : Mt} {As : List Value} {h : HP} {Q : Oc → HP → Prop} {s : Nat} {b : Bd} (hk : KK G s b) (kk : h s = none → Ct G d c M As h Q) : Ct G d c M As h Q := by
  cases e : h s with
  | none => exact kk e
  | some b2 =>
    intro hG p e1 h1 h2 h3 s1 m args below h4 h5 h6 h7
    have hr := (h6.2.1.2 s b2 e).1
    obtain ⟨cell, hc, _⟩ := hk
    have : s < (gS G).heap.size := (Array.getElem?_eq_some_iff.mp hc).1
    exact absurd hr (Nat.not_le.mpr this)
theorem Ct_st {G : GG} {d c : Nat} {M : Mt} {As : List Value} {h : HP} {Q : Oc → HP → Prop} {s v a : Nat} {x y : Value} {n : Nat} {f : Nat → Int32} {fs : List Value} (hs : Has G h s (bO 15 [.ref v, .int 0, x, y])) (hv : Has G h v (bI 1 n f)) (ha : h a = some (bO 14 fs)) (kk : ¬ (s = a ∨ v = a) → Ct G d c M As h Q) : Ct G d c M As h Q := by
  have one : (s ≠ a → Ct G d c M As h Q) → Ct G d c M As h Q := fun k2 => by
    rcases hs with e | e
    · exact k2 (kd_ne e ha (show 15 ≠ 14 by decide))
    · exact Ct_kn e fun en => k2 fun e2 => by rw [e2, ha] at en; cases en
  have two : (v ≠ a → Ct G d c M As h Q) → Ct G d c M As h Q := fun k2 => by
    rcases hv with e | e
    · exact k2 (kd_ne e ha (show 101 ≠ 14 by decide))
    · exact Ct_kn e fun en => k2 fun e2 => by rw [e2, ha] at en; cases en
  exact one fun e1 => two fun e2 => kk fun e3 => e3.elim e1 e2
/-- cells that a builder at a does not touch -/
def Kp (h h' : HP) (a : Nat) : Prop := ∀ q b, q ≠ a → kd b ≠ 101 → h q = some b → h' q = some b
/-- a builder made since h0 -/
def BL (h0 h : HP) (a : Nat) (l : List Int32) : Prop := (∃ r N, SB h a r N l ∧ h0 r = none) ∧ h0 a = none ∧ Ext h0 h
theorem BL_at {h0 h : HP} {a : Nat} {l : List Int32} (hB : BL h0 h a l) : ∃ fs, h a = some (bO 14 fs) := by
  obtain ⟨⟨r, N, ⟨m, g, h1, _⟩, _⟩, _⟩ := hB
  exact ⟨_, h1⟩
theorem SB_r {h : HP} {a r N : Nat} {l : List Int32} (hS : SB h a r N l) : ∃ b, h r = some b ∧ kd b = 101 := by
  obtain ⟨m, g, h1, h2, _⟩ := hS
  exact ⟨_, h2, rfl⟩
theorem BL_st {h0 h h' : HP} {a r N r' N' : Nat} {l l' : List Int32} (hS : SB h a r N l) (hr : h0 r = none) (ha : h0 a = none) (hx : Ext h0 h) (hS' : SB h' a r' N' l') (hr' : r' = r ∨ h r' = none) (hf : ∀ q b, q ≠ a → q ≠ r → h q = some b → h' q = some b) : BL h0 h' a l' ∧ Kp h h' a := by
  refine ⟨⟨⟨r', N', hS', ?_⟩, ha, fun q b hb => ?_⟩, fun q b hq hk hb => ?_⟩
  · rcases hr' with e | e
    · rw [e]; exact hr
    · cases e2 : h0 r' with
      | none => rfl
      | some b => rw [hx _ _ e2] at e; cases e
  · exact hf q b (fun e => by rw [e, ha] at hb; cases hb) (fun e => by rw [e, hr] at hb; cases hb) (hx q b hb)
  · refine hf q b hq (fun e => ?_) hb
    obtain ⟨b2, h2, h3⟩ := SB_r hS
    rw [e, h2] at hb
    rw [← Option.some.inj hb] at hk
    exact hk h3
theorem sp_bl_0 {G : GG} {h0 : HP} (hT : KT G) {a : Nat} (ha : h0 a = none) : Ct G 2 17 M_J11_init [.ref a] (hu h0 a (bO 14 [.null, .int 0, .int 0, .int 0])) (rQ (fun v h' => v = none ∧ BL h0 h' a [])) := by
  refine (sp_J11_init hT hu_s).mono (fun o h' hq => ?_)
  rcases o with u | q
  · obtain ⟨rfl, r, hr, hra, rfl⟩ := hq
    have hr0 : h0 r = none := by rw [hu_n hra] at hr; exact hr
    refine ⟨rfl, ⟨r, 16, ⟨0, fun _ => 0, hu_s, (hu_n hra).trans hu_s, Nat.zero_le _, by decide, fun j _ => show asc 0 by decide, fun j hj => absurd hj (Nat.not_lt_zero j)⟩, hr0⟩, ha, fun q b hb => ?_⟩
    have e1 : q ≠ a := fun e => by rw [e, ha] at hb; cases hb
    have e2 : q ≠ r := fun e => by rw [e, hr0] at hb; cases hb
    rw [hu_n e1, hu_n e2, hu_n e1]
    exact hb
  · exact hq.elim
theorem sp_bl_s {G : GG} {h0 h : HP} (hT : KT G) {a s : Nat} {l t : List Int32} (hB : BL h0 h a l) (hs : ST G h s t) (hl : l.length + t.length ≤ 64) : Ct G 5 301 M_J11_append [.ref a, .ref s] h (rQ (fun v h' => v = some (.ref a) ∧ BL h0 h' a (l ++ t) ∧ Kp h h' a)) := by
  obtain ⟨⟨r, N, hS, hr⟩, ha, hx⟩ := hB
  obtain ⟨v, x, y, f, h1, h2, h3, h4, h5⟩ := hs
  have ha2 := hS.choose_spec.choose_spec.1
  refine Ct_st h1 h2 ha2 fun hn => (sp_J11_append hT h1 h2 h3 h4 hS hn hl).mono (fun o h' hq => ?_)
  rcases o with u | q
  · obtain ⟨rfl, r', N', hS', hr', hf⟩ := hq
    exact ⟨rfl, BL_st hS hr ha hx hS' hr' hf⟩
  · exact hq.elim
theorem sp_bl_n {G : GG} {h0 h : HP} (hT : KT G) {a : Nat} {l : List Int32} {x : Int32} (hB : BL h0 h a l) (hx0 : 0 ≤ x.toInt ∧ x.toInt ≤ 100) (hl : l.length + 3 ≤ 64) : Ct G 5 301 M_J11_append_3 [.ref a, .int x] h (rQ (fun v h' => v = some (.ref a) ∧ BL h0 h' a (l ++ digs (tn x)) ∧ Kp h h' a)) := by
  obtain ⟨⟨r, N, hS, hr⟩, ha, hx⟩ := hB
  have ex : x = nI (tn x) := by
    rw [i32_eq, nIn (by unfold tn; omega)]
    unfold tn; omega
  have := sp_J11_append_3 hT hS (w := tn x) (by unfold tn; omega) hl
  rw [← ex] at this
  refine this.mono (fun o h' hq => ?_)
  rcases o with u | q
  · obtain ⟨rfl, r', N', hS', hr', hf⟩ := hq
    exact ⟨rfl, BL_st hS hr ha hx hS' hr' hf⟩
  · exact hq.elim
theorem sp_bl_t {G : GG} {h0 h : HP} (hT : KT G) {a : Nat} {l : List Int32} (hB : BL h0 h a l) : Ct G 5 140 M_J11_toString [.ref a] h (rQ (fun v h' => ∃ s, v = some (.ref s) ∧ ST G h' s l ∧ Ext h0 h' ∧ h0 s = none ∧ Kp h h' a)) := by
  obtain ⟨⟨r, N, hS, hr⟩, ha, hx⟩ := hB
  refine (sp_J11_toString hT hS).mono (fun o h' hq => ?_)
  rcases o with u | q
  · obtain ⟨s, q, rfl, hs0, hq0, ⟨f, e1, e2, e3⟩, hx2⟩ := hq
    refine ⟨s, rfl, ⟨q, _, _, f, Or.inl e1, Or.inl e2, e3, fun j hj => ?_, ?_⟩, fun z b hb => hx2 z b (hx z b hb), ?_, fun z b _ _ hb => hx2 z b hb⟩
    · obtain ⟨m, g, _, _, h3, _, h5, h6⟩ := hS
      rw [← h6 j hj]
      exact h5 j (by omega)
    · obtain ⟨m, g, _, _, h3, h4, _⟩ := hS
      omega
    · cases e : h0 s with
      | none => rfl
      | some b => rw [hx _ _ e] at hs0; cases hs0
  · exact hq.elim
/-! ### the lines -/
def txH (t dg : Int32) : List Int32 := digs (tn t) ++ (if 7 ≤ dg then [33] else if dg = -15 then [] else [100])
def txS (w : Nat → Int32) (s : Nat) : List Int32 := [64] ++ digs (tn (gSl w s 1)) ++ [32, 104] ++ digs (tn (gSl w s 3)) ++ [32, 111] ++ digs (tn (gSl w s 4)) ++ [32, 119] ++ digs (tn (gSl w s 5)) ++ [32, 126] ++ digs (tn (gSl w s 2))
def txT (w : Nat → Int32) : Nat → List Int32
  | 0 => []
  | n + 1 => txT w n ++ txH (gTm w n) (gDg w n)
theorem digs_9 {x : Int32} (h : x.toInt ≤ 9) : (digs (tn x)).length = 1 := by
  rw [digs_1 (by unfold tn; omega)]
  rfl
theorem txH_l {t dg : Int32} (h : t.toInt ≤ 9) : (txH t dg).length ≤ 2 := by
  unfold txH
  rw [List.length_append, digs_9 h]
  by_cases e : 7 ≤ dg
  · rw [if_pos e]; exact Nat.le_refl 2
  · rw [if_neg e]
    by_cases e2 : dg = -15
    · rw [if_pos e2]; exact Nat.le_succ 1
    · rw [if_neg e2]; exact Nat.le_refl 2
theorem txT_l {w : Nat → Int32} (h : ∀ k, k < 20 → (gTm w k).toInt ≤ 9) (n : Nat) (hn : n ≤ 20) : (txT w n).length ≤ 2 * n := by
  induction n with
  | zero => exact Nat.le_refl 0
  | succ n ih =>
    show (txT w n ++ txH (gTm w n) (gDg w n)).length ≤ _
    rw [List.length_append]
    have := txH_l (dg := gDg w n) (h n (by omega))
    have := ih (by omega)
    omega
set_option maxHeartbeats 4000000 in
set_option maxRecDepth 100000 in
theorem sp_X2_text {G : GG} {h : HP} (hT : KT G) {ka : Nat → Nat} (hKC : KC G ka) {a : Nat} {nr t dg bt : Int32} {b : Nat} (ha : h a = some (bO 2 [.int nr, .int t, .int dg, .int bt, .ref b])) (ht : 0 ≤ t.toInt ∧ t.toInt ≤ 100)  : Ct G 6 1200 M_X2_text [.ref a] h (rQ (fun v h' => ∃ s, v = some (.ref s) ∧ ST G h' s (txH t dg) ∧ Ext h h' ∧ h s = none)) := by
  refine ct_intro my_X2_text (Nat.le_of_ble_eq_true rfl) ?_
  refine r_new 14 [.null, .int 0, .int 0, .int 0] dX2_text_0 rfl (lkA q1778) (lkA q371) (lkA q79) (fun j hj => match j, hj with | 0, _ => rfl | 1, _ => rfl | 2, _ => rfl | 3, _ => rfl | k + 4, hk => absurd hk (Nat.not_lt.mpr (Nat.le_add_left 4 k))) (Nat.le_of_ble_eq_true rfl) (fun q0 hq0 => ?_)
  refine r_dup dX2_text_3 rfl ?_
  refine r_invI dX2_text_4 (sp_bl_0 hT hq0) rfl mo_J11_init (lkA q1779) (lkA q373) rfl rfl rfl (lkA q79) mp_J11_init (Nat.le_of_ble_eq_true rfl) (Nat.le_of_ble_eq_true rfl) (Nat.le_of_ble_eq_true rfl) (kr_r (fun v9 h9 p9 => ?_)) kx_r
  obtain ⟨rfl, hB⟩ := p9
  have ha1 := hB.2.2 _ _ ha
  have hb1 := (BL_at hB).choose_spec
  first | refine r_aload_n dX2_text_7 rfl ?_ | refine r_aload_nq dX2_text_7 rfl ?_ | refine r_aload_nN dX2_text_7 rfl ?_
  refine r_getfield 2 1 dX2_text_8 rfl (Nat.le_of_ble_eq_true rfl) (lkA q209) (Or.inl rfl) (Or.inl ha1) (by rfl) ?_
  refine r_invV dX2_text_11 (sp_bl_n hT hB ht (by show 0 + 3 ≤ 64; omega)) rfl mo_J11_append_3 (Or.inl hb1) rfl (lkA q1780) (lkA q1734) (lkA q1735) rfl (lkA q79) mp_J11_append_3 (Nat.le_of_ble_eq_true rfl) (Nat.le_of_ble_eq_true rfl) (Nat.le_of_ble_eq_true rfl) (kr_r (fun v9 h9 p9 => ?_)) kx_r
  obtain ⟨rfl, hB, hk9⟩ := p9
  have ha2 := hB.2.2 _ _ ha
  have hb2 := (BL_at hB).choose_spec
  have hdl := digs_l (v := tn t)
  first | refine r_aload_n dX2_text_14 rfl ?_ | refine r_aload_nq dX2_text_14 rfl ?_ | refine r_aload_nN dX2_text_14 rfl ?_
  refine r_invV dX2_text_15 (sp_X2_isGuarded ha2) rfl mo_X2_isGuarded (Or.inl ha2) rfl (lkA q1781) (lkA q1299) (lkA q1300) rfl (lkA q71) mp_X2_isGuarded (Nat.le_of_ble_eq_true rfl) (Nat.le_of_ble_eq_true rfl) (Nat.le_of_ble_eq_true rfl) (kr_e ?_) kx_e
  refine r_if_eq 26 dX2_text_18 rfl (fun c18 => ?_) (fun c18 => ?_)
  · first | refine r_aload_n dX2_text_26 rfl ?_ | refine r_aload_nq dX2_text_26 rfl ?_ | refine r_aload_nN dX2_text_26 rfl ?_
    refine r_getfield 2 2 dX2_text_27 rfl (Nat.le_of_ble_eq_true rfl) (lkA q211) (Or.inl rfl) (Or.inl ha2) (by rfl) ?_
    refine r_bipush (v := (-15)) dX2_text_30 rfl ?_
    refine r_icmp_ne 40 dX2_text_32 rfl (fun c32 => ?_) (fun c32 => ?_)
    · refine r_ldcS dX2_text_40 (show Str _ _ _ _ _ from hKC.1 3 (Nat.le_of_ble_eq_true rfl)) ?_
      refine r_invV dX2_text_42 (sp_bl_s hT hB (ST_k hKC _ 9 (Nat.le_of_ble_eq_true rfl)) (by show (digs (tn t)).length + 1 ≤ 64; omega)) rfl mo_J11_append (Or.inl hb2) rfl (lkA q1785) (lkA q661) (lkA q662) rfl (lkA q79) mp_J11_append (Nat.le_of_ble_eq_true rfl) (Nat.le_of_ble_eq_true rfl) (Nat.le_of_ble_eq_true rfl) (kr_r (fun v9 h9 p9 => ?_)) kx_r
      obtain ⟨rfl, hB, hk9⟩ := p9
      have hb3 := (BL_at hB).choose_spec
      refine r_invV dX2_text_45 (sp_bl_t hT hB) rfl mo_J11_toString (Or.inl hb3) rfl (lkA q1786) (lkA q765) (lkA q766) rfl (lkA q79) mp_J11_toString (Nat.le_of_ble_eq_true rfl) (Nat.le_of_ble_eq_true rfl) (Nat.le_of_ble_eq_true rfl) (kr_r (fun v9 h9 p9 => ?_)) kx_r
      obtain ⟨s, rfl, hs9, hx9, hn9, hk9⟩ := p9
      have e9 : txH t dg = [] ++ digs (tn t) ++ kch 9 := by unfold txH; rw [if_neg (of_decide_eq_false (bi_0.mp c18)), if_neg c32]; rfl
      rw [← e9] at hs9
      first | exact r_areturn dX2_text_48 rfl rfl ⟨s, rfl, hs9, hx9, hn9⟩ | exact r_areturnq dX2_text_48 rfl rfl ⟨s, rfl, hs9, hx9, hn9⟩ | exact r_areturnN dX2_text_48 rfl rfl ⟨s, rfl, hs9, hx9, hn9⟩
    · refine r_ldcS dX2_text_35 (show Str _ _ _ _ _ from hKC.1 2 (Nat.le_of_ble_eq_true rfl)) ?_
      refine r_goto 42 dX2_text_37 rfl ?_
      refine r_invV dX2_text_42 (sp_bl_s hT hB (ST_k hKC _ 8 (Nat.le_of_ble_eq_true rfl)) (by show (digs (tn t)).length + 0 ≤ 64; omega)) rfl mo_J11_append (Or.inl hb2) rfl (lkA q1785) (lkA q661) (lkA q662) rfl (lkA q79) mp_J11_append (Nat.le_of_ble_eq_true rfl) (Nat.le_of_ble_eq_true rfl) (Nat.le_of_ble_eq_true rfl) (kr_r (fun v9 h9 p9 => ?_)) kx_r
      obtain ⟨rfl, hB, hk9⟩ := p9
      have hb3 := (BL_at hB).choose_spec
      refine r_invV dX2_text_45 (sp_bl_t hT hB) rfl mo_J11_toString (Or.inl hb3) rfl (lkA q1786) (lkA q765) (lkA q766) rfl (lkA q79) mp_J11_toString (Nat.le_of_ble_eq_true rfl) (Nat.le_of_ble_eq_true rfl) (Nat.le_of_ble_eq_true rfl) (kr_r (fun v9 h9 p9 => ?_)) kx_r
      obtain ⟨s, rfl, hs9, hx9, hn9, hk9⟩ := p9
      have e9 : txH t dg = [] ++ digs (tn t) ++ kch 8 := by unfold txH; rw [if_neg (of_decide_eq_false (bi_0.mp c18)), if_pos c32]; rfl
      rw [← e9] at hs9
      first | exact r_areturn dX2_text_48 rfl rfl ⟨s, rfl, hs9, hx9, hn9⟩ | exact r_areturnq dX2_text_48 rfl rfl ⟨s, rfl, hs9, hx9, hn9⟩ | exact r_areturnN dX2_text_48 rfl rfl ⟨s, rfl, hs9, hx9, hn9⟩
  · refine r_ldcS dX2_text_21 (show Str _ _ _ _ _ from hKC.1 1 (Nat.le_of_ble_eq_true rfl)) ?_
    refine r_goto 42 dX2_text_23 rfl ?_
    refine r_invV dX2_text_42 (sp_bl_s hT hB (ST_k hKC _ 7 (Nat.le_of_ble_eq_true rfl)) (by show (digs (tn t)).length + 1 ≤ 64; omega)) rfl mo_J11_append (Or.inl hb2) rfl (lkA q1785) (lkA q661) (lkA q662) rfl (lkA q79) mp_J11_append (Nat.le_of_ble_eq_true rfl) (Nat.le_of_ble_eq_true rfl) (Nat.le_of_ble_eq_true rfl) (kr_r (fun v9 h9 p9 => ?_)) kx_r
    obtain ⟨rfl, hB, hk9⟩ := p9
    have hb3 := (BL_at hB).choose_spec
    refine r_invV dX2_text_45 (sp_bl_t hT hB) rfl mo_J11_toString (Or.inl hb3) rfl (lkA q1786) (lkA q765) (lkA q766) rfl (lkA q79) mp_J11_toString (Nat.le_of_ble_eq_true rfl) (Nat.le_of_ble_eq_true rfl) (Nat.le_of_ble_eq_true rfl) (kr_r (fun v9 h9 p9 => ?_)) kx_r
    obtain ⟨s, rfl, hs9, hx9, hn9, hk9⟩ := p9
    have e9 : txH t dg = [] ++ digs (tn t) ++ kch 7 := by unfold txH; rw [if_pos (of_decide_eq_true (bi_n0.mp c18))]; rfl
    rw [← e9] at hs9
    first | exact r_areturn dX2_text_48 rfl rfl ⟨s, rfl, hs9, hx9, hn9⟩ | exact r_areturnq dX2_text_48 rfl rfl ⟨s, rfl, hs9, hx9, hn9⟩ | exact r_areturnN dX2_text_48 rfl rfl ⟨s, rfl, hs9, hx9, hn9⟩

def txL (p a b c w : Int32) : List Int32 := [64] ++ digs (tn p) ++ [32, 104] ++ digs (tn a) ++ [32, 111] ++ digs (tn b) ++ [32, 119] ++ digs (tn c) ++ [32, 126] ++ digs (tn w)
theorem txS_L {w : Nat → Int32} {s : Nat} : txS w s = txL (gSl w s 1) (gSl w s 3) (gSl w s 4) (gSl w s 5) (gSl w s 2) := rfl
theorem BL_ext {h0 h h' : HP} {a : Nat} {l : List Int32} (hB : BL h0 h a l) (hx : Ext h h') : BL h0 h' a l := by
  obtain ⟨⟨r, N, ⟨m, g, h1, h2, h3⟩, hr⟩, ha, hx0⟩ := hB
  exact ⟨⟨r, N, ⟨m, g, hx _ _ h1, hx _ _ h2, h3⟩, hr⟩, ha, fun q b hb => hx q b (hx0 q b hb)⟩
theorem BL_hu {h0 h : HP} {a q : Nat} {x y : Bd} {l : List Int32} (hB : BL h0 h a l) (hq : h q = some x) (hk : kd x = 16) (h0q : h0 q = none) : BL h0 (hu h q y) a l := by
  obtain ⟨⟨r, N, ⟨m, g, h1, h2, h3⟩, hr⟩, ha, hx0⟩ := hB
  have e1 : a ≠ q := kd_ne h1 hq (by rw [hk]; show 14 ≠ 16; decide)
  have e2 : r ≠ q := kd_ne h2 hq (by rw [hk]; show 101 ≠ 16; decide)
  exact ⟨⟨r, N, ⟨m, g, (hu_n e1).trans h1, (hu_n e2).trans h2, h3⟩, hr⟩, ha, fun z b hb => (hu_n (fun e => by rw [e, h0q] at hb; cases hb)).trans (hx0 z b hb)⟩
set_option maxHeartbeats 4000000 in
set_option maxRecDepth 100000 in
theorem sp_X4_text {G : GG} {h : HP} (hT : KT G) {ka : Nat → Nat} (hKC : KC G ka) {a : Nat} {c p w s b g : Int32} {r : Nat} {f : Nat → Int32} (ha : h a = some (bO 4 [.int c, .int p, .int w, .ref r, .int s, .int b, .int g])) (hr : h r = some (bI 0 3 f)) (hp : 0 ≤ p.toInt ∧ p.toInt ≤ 100) (hw : 0 ≤ w.toInt ∧ w.toInt ≤ 100) (hf : ∀ j, j < 3 → 0 ≤ (f j).toInt ∧ (f j).toInt ≤ 100)  : Ct G 6 3200 M_X4_text [.ref a] h (rQ (fun v h' => ∃ s, v = some (.ref s) ∧ ST G h' s (txL p (f 0) (f 1) (f 2) w) ∧ Ext h h' ∧ h s = none)) := by
  refine ct_intro my_X4_text (Nat.le_of_ble_eq_true rfl) ?_
  have hd_0 := (digs_l (v := tn p)).2
  have hd_1 := (digs_l (v := tn (f 0))).2
  have hd_2 := (digs_l (v := tn (f 1))).2
  have hd_3 := (digs_l (v := tn (f 2))).2
  have hd_4 := (digs_l (v := tn w)).2
  have hk_10 := kch_l 10 (Nat.le_of_ble_eq_true rfl)
  have hk_11 := kch_l 11 (Nat.le_of_ble_eq_true rfl)
  have hk_12 := kch_l 12 (Nat.le_of_ble_eq_true rfl)
  have hk_13 := kch_l 13 (Nat.le_of_ble_eq_true rfl)
  have hk_14 := kch_l 14 (Nat.le_of_ble_eq_true rfl)
  refine r_new 14 [.null, .int 0, .int 0, .int 0] dX4_text_0 rfl (lkA q1729) (lkA q371) (lkA q79) (fun j hj => match j, hj with | 0, _ => rfl | 1, _ => rfl | 2, _ => rfl | 3, _ => rfl | k + 4, hk => absurd hk (Nat.not_lt.mpr (Nat.le_add_left 4 k))) (Nat.le_of_ble_eq_true rfl) (fun q0 hq0 => ?_)
  refine r_dup dX4_text_3 rfl ?_
  refine r_invI dX4_text_4 (sp_bl_0 hT hq0) rfl mo_J11_init (lkA q1730) (lkA q373) rfl rfl rfl (lkA q79) mp_J11_init (Nat.le_of_ble_eq_true rfl) (Nat.le_of_ble_eq_true rfl) (Nat.le_of_ble_eq_true rfl) (kr_r (fun v9 h9 p9 => ?_)) kx_r
  obtain ⟨rfl, hB⟩ := p9
  have ha1 := hB.2.2 _ _ ha
  have hr1 := hB.2.2 _ _ hr
  have hb1 := (BL_at hB).choose_spec
  refine r_ldcS dX4_text_7 (show Str _ _ _ _ _ from hKC.1 17 (Nat.le_of_ble_eq_true rfl)) ?_
  refine r_invV dX4_text_9 (sp_bl_s hT hB (ST_k hKC _ 10 (Nat.le_of_ble_eq_true rfl)) (by simp only [List.length_append, List.length_nil]; omega)) rfl mo_J11_append (Or.inl hb1) rfl (lkA q1732) (lkA q661) (lkA q662) rfl (lkA q79) mp_J11_append (Nat.le_of_ble_eq_true rfl) (Nat.le_of_ble_eq_true rfl) (Nat.le_of_ble_eq_true rfl) (kr_r (fun v9 h9 p9 => ?_)) kx_r
  obtain ⟨rfl, hB, hk9⟩ := p9
  have hb1 := (BL_at hB).choose_spec
  have ha1 := hB.2.2 _ _ ha
  have hr1 := hB.2.2 _ _ hr
  first | refine r_aload_n dX4_text_12 rfl ?_ | refine r_aload_nq dX4_text_12 rfl ?_ | refine r_aload_nN dX4_text_12 rfl ?_
  refine r_getfield 4 1 dX4_text_13 rfl (Nat.le_of_ble_eq_true rfl) (lkA q875) (Or.inl rfl) (Or.inl ha1) (by rfl) ?_
  refine r_invV dX4_text_16 (sp_bl_n hT hB hp (by simp only [List.length_append, List.length_nil]; omega)) rfl mo_J11_append_3 (Or.inl hb1) rfl (lkA q1733) (lkA q1734) (lkA q1735) rfl (lkA q79) mp_J11_append_3 (Nat.le_of_ble_eq_true rfl) (Nat.le_of_ble_eq_true rfl) (Nat.le_of_ble_eq_true rfl) (kr_r (fun v9 h9 p9 => ?_)) kx_r
  obtain ⟨rfl, hB, hk9⟩ := p9
  have hb1 := (BL_at hB).choose_spec
  have ha1 := hB.2.2 _ _ ha
  have hr1 := hB.2.2 _ _ hr
  refine r_ldcS dX4_text_19 (show Str _ _ _ _ _ from hKC.1 18 (Nat.le_of_ble_eq_true rfl)) ?_
  refine r_invV dX4_text_21 (sp_bl_s hT hB (ST_k hKC _ 11 (Nat.le_of_ble_eq_true rfl)) (by simp only [List.length_append, List.length_nil]; omega)) rfl mo_J11_append (Or.inl hb1) rfl (lkA q1732) (lkA q661) (lkA q662) rfl (lkA q79) mp_J11_append (Nat.le_of_ble_eq_true rfl) (Nat.le_of_ble_eq_true rfl) (Nat.le_of_ble_eq_true rfl) (kr_r (fun v9 h9 p9 => ?_)) kx_r
  obtain ⟨rfl, hB, hk9⟩ := p9
  have hb1 := (BL_at hB).choose_spec
  have ha1 := hB.2.2 _ _ ha
  have hr1 := hB.2.2 _ _ hr
  first | refine r_aload_n dX4_text_24 rfl ?_ | refine r_aload_nq dX4_text_24 rfl ?_ | refine r_aload_nN dX4_text_24 rfl ?_
  refine r_getfield 4 3 dX4_text_25 rfl (Nat.le_of_ble_eq_true rfl) (lkA q879) (Or.inl rfl) (Or.inl ha1) (by rfl) ?_
  refine r_iconst (v := 0) dX4_text_28 rfl ?_
  refine r_iaload (0) dX4_text_29 (Or.inl hr1) rfl (Nat.le_of_ble_eq_true rfl) rfl ?_
  refine r_invV dX4_text_30 (sp_bl_n hT hB (hf 0 (by omega)) (by simp only [List.length_append, List.length_nil]; omega)) rfl mo_J11_append_3 (Or.inl hb1) rfl (lkA q1733) (lkA q1734) (lkA q1735) rfl (lkA q79) mp_J11_append_3 (Nat.le_of_ble_eq_true rfl) (Nat.le_of_ble_eq_true rfl) (Nat.le_of_ble_eq_true rfl) (kr_r (fun v9 h9 p9 => ?_)) kx_r
  obtain ⟨rfl, hB, hk9⟩ := p9
  have hb1 := (BL_at hB).choose_spec
  have ha1 := hB.2.2 _ _ ha
  have hr1 := hB.2.2 _ _ hr
  refine r_ldcS dX4_text_33 (show Str _ _ _ _ _ from hKC.1 19 (Nat.le_of_ble_eq_true rfl)) ?_
  refine r_invV dX4_text_35 (sp_bl_s hT hB (ST_k hKC _ 12 (Nat.le_of_ble_eq_true rfl)) (by simp only [List.length_append, List.length_nil]; omega)) rfl mo_J11_append (Or.inl hb1) rfl (lkA q1732) (lkA q661) (lkA q662) rfl (lkA q79) mp_J11_append (Nat.le_of_ble_eq_true rfl) (Nat.le_of_ble_eq_true rfl) (Nat.le_of_ble_eq_true rfl) (kr_r (fun v9 h9 p9 => ?_)) kx_r
  obtain ⟨rfl, hB, hk9⟩ := p9
  have hb1 := (BL_at hB).choose_spec
  have ha1 := hB.2.2 _ _ ha
  have hr1 := hB.2.2 _ _ hr
  first | refine r_aload_n dX4_text_38 rfl ?_ | refine r_aload_nq dX4_text_38 rfl ?_ | refine r_aload_nN dX4_text_38 rfl ?_
  refine r_getfield 4 3 dX4_text_39 rfl (Nat.le_of_ble_eq_true rfl) (lkA q879) (Or.inl rfl) (Or.inl ha1) (by rfl) ?_
  refine r_iconst (v := 1) dX4_text_42 rfl ?_
  refine r_iaload (1) dX4_text_43 (Or.inl hr1) rfl (Nat.le_of_ble_eq_true rfl) rfl ?_
  refine r_invV dX4_text_44 (sp_bl_n hT hB (hf 1 (by omega)) (by simp only [List.length_append, List.length_nil]; omega)) rfl mo_J11_append_3 (Or.inl hb1) rfl (lkA q1733) (lkA q1734) (lkA q1735) rfl (lkA q79) mp_J11_append_3 (Nat.le_of_ble_eq_true rfl) (Nat.le_of_ble_eq_true rfl) (Nat.le_of_ble_eq_true rfl) (kr_r (fun v9 h9 p9 => ?_)) kx_r
  obtain ⟨rfl, hB, hk9⟩ := p9
  have hb1 := (BL_at hB).choose_spec
  have ha1 := hB.2.2 _ _ ha
  have hr1 := hB.2.2 _ _ hr
  refine r_ldcS dX4_text_47 (show Str _ _ _ _ _ from hKC.1 20 (Nat.le_of_ble_eq_true rfl)) ?_
  refine r_invV dX4_text_49 (sp_bl_s hT hB (ST_k hKC _ 13 (Nat.le_of_ble_eq_true rfl)) (by simp only [List.length_append, List.length_nil]; omega)) rfl mo_J11_append (Or.inl hb1) rfl (lkA q1732) (lkA q661) (lkA q662) rfl (lkA q79) mp_J11_append (Nat.le_of_ble_eq_true rfl) (Nat.le_of_ble_eq_true rfl) (Nat.le_of_ble_eq_true rfl) (kr_r (fun v9 h9 p9 => ?_)) kx_r
  obtain ⟨rfl, hB, hk9⟩ := p9
  have hb1 := (BL_at hB).choose_spec
  have ha1 := hB.2.2 _ _ ha
  have hr1 := hB.2.2 _ _ hr
  first | refine r_aload_n dX4_text_52 rfl ?_ | refine r_aload_nq dX4_text_52 rfl ?_ | refine r_aload_nN dX4_text_52 rfl ?_
  refine r_getfield 4 3 dX4_text_53 rfl (Nat.le_of_ble_eq_true rfl) (lkA q879) (Or.inl rfl) (Or.inl ha1) (by rfl) ?_
  refine r_iconst (v := 2) dX4_text_56 rfl ?_
  refine r_iaload (2) dX4_text_57 (Or.inl hr1) rfl (Nat.le_of_ble_eq_true rfl) rfl ?_
  refine r_invV dX4_text_58 (sp_bl_n hT hB (hf 2 (by omega)) (by simp only [List.length_append, List.length_nil]; omega)) rfl mo_J11_append_3 (Or.inl hb1) rfl (lkA q1733) (lkA q1734) (lkA q1735) rfl (lkA q79) mp_J11_append_3 (Nat.le_of_ble_eq_true rfl) (Nat.le_of_ble_eq_true rfl) (Nat.le_of_ble_eq_true rfl) (kr_r (fun v9 h9 p9 => ?_)) kx_r
  obtain ⟨rfl, hB, hk9⟩ := p9
  have hb1 := (BL_at hB).choose_spec
  have ha1 := hB.2.2 _ _ ha
  have hr1 := hB.2.2 _ _ hr
  refine r_ldcS dX4_text_61 (show Str _ _ _ _ _ from hKC.1 21 (Nat.le_of_ble_eq_true rfl)) ?_
  refine r_invV dX4_text_63 (sp_bl_s hT hB (ST_k hKC _ 14 (Nat.le_of_ble_eq_true rfl)) (by simp only [List.length_append, List.length_nil]; omega)) rfl mo_J11_append (Or.inl hb1) rfl (lkA q1732) (lkA q661) (lkA q662) rfl (lkA q79) mp_J11_append (Nat.le_of_ble_eq_true rfl) (Nat.le_of_ble_eq_true rfl) (Nat.le_of_ble_eq_true rfl) (kr_r (fun v9 h9 p9 => ?_)) kx_r
  obtain ⟨rfl, hB, hk9⟩ := p9
  have hb1 := (BL_at hB).choose_spec
  have ha1 := hB.2.2 _ _ ha
  have hr1 := hB.2.2 _ _ hr
  first | refine r_aload_n dX4_text_66 rfl ?_ | refine r_aload_nq dX4_text_66 rfl ?_ | refine r_aload_nN dX4_text_66 rfl ?_
  refine r_getfield 4 2 dX4_text_67 rfl (Nat.le_of_ble_eq_true rfl) (lkA q877) (Or.inl rfl) (Or.inl ha1) (by rfl) ?_
  refine r_invV dX4_text_70 (sp_bl_n hT hB hw (by simp only [List.length_append, List.length_nil]; omega)) rfl mo_J11_append_3 (Or.inl hb1) rfl (lkA q1733) (lkA q1734) (lkA q1735) rfl (lkA q79) mp_J11_append_3 (Nat.le_of_ble_eq_true rfl) (Nat.le_of_ble_eq_true rfl) (Nat.le_of_ble_eq_true rfl) (kr_r (fun v9 h9 p9 => ?_)) kx_r
  obtain ⟨rfl, hB, hk9⟩ := p9
  have hb1 := (BL_at hB).choose_spec
  have ha1 := hB.2.2 _ _ ha
  have hr1 := hB.2.2 _ _ hr
  refine r_invV dX4_text_73 (sp_bl_t hT hB) rfl mo_J11_toString (Or.inl hb1) rfl (lkA q1762) (lkA q765) (lkA q766) rfl (lkA q79) mp_J11_toString (Nat.le_of_ble_eq_true rfl) (Nat.le_of_ble_eq_true rfl) (Nat.le_of_ble_eq_true rfl) (kr_r (fun v9 h9 p9 => ?_)) kx_r
  obtain ⟨s9, rfl, hs9, hx9, hn9, hk9⟩ := p9
  first | exact r_areturn dX4_text_76 rfl rfl ⟨s9, rfl, hs9, hx9, hn9⟩ | exact r_areturnq dX4_text_76 rfl rfl ⟨s9, rfl, hs9, hx9, hn9⟩ | exact r_areturnN dX4_text_76 rfl rfl ⟨s9, rfl, hs9, hx9, hn9⟩

set_option maxHeartbeats 4000000 in
set_option maxRecDepth 100000 in
theorem lp_street {G : GG} {h : HP} (hT : KT G) {ka : Nat → Nat} (hKC : KC G ka) {ad : Nat → Nat} {w : Nat → Int32} (hS : St h ad w) (hx : ∀ m, m < 20 → 0 ≤ (gTm w m).toInt ∧ (gTm w m).toInt ≤ 9) {b q : Nat} (h0q : h q = none) : ∀ (k i : Nat) (H : HP) (lr : Int32), i + k = 20 → BL h H b (txT w i) → H q = some (bIt (nI i) lr 20 (ad 1)) → V G 7 M_X1_streetTold 16 [(2, .ref q), (1, .ref b), (0, .ref (ad 0))] [] H (1600 * k + 200) (rQ (fun v h' => ∃ s, v = some (.ref s) ∧ ST G h' s (txT w 20) ∧ Ext h h' ∧ h s = none)) := by
  intro k
  induction k with
  | zero =>
    intro i H lr hk hB hq
    obtain rfl : i = 20 := by omega
    have S1 := St_ext hS hB.2.2
    have hb1 := (BL_at hB).choose_spec
    first | refine r_aload_n dX1_streetTold_16 rfl ?_ | refine r_aload_nq dX1_streetTold_16 rfl ?_ | refine r_aload_nN dX1_streetTold_16 rfl ?_
    refine r_invF dX1_streetTold_17 (sp_J16_hasNext hq (s_1 S1)) rfl mo_J16_hasNext (Or.inl hq) rfl (lkA q517) ⟨q519, q518, q539, q537, q535⟩ ⟨by decide +kernel, by decide +kernel⟩ (lkA q536) (lkA q538) rfl (show _ = some 0 from by decide +kernel) (lkA q85) mp_J16_hasNext (Nat.le_of_ble_eq_true rfl) (Nat.le_of_ble_eq_true rfl) (Nat.le_of_ble_eq_true rfl) (kr_e ?_) kx_e
    refine r_if_eq 47 dX1_streetTold_22 rfl (fun c22 => ?_) (fun c22 => absurd c22 (by rw [if_pos ((nI_c (n := 20) (x := 20) rfl (by omega)).mpr rfl)]; decide))
    first | refine r_aload_n dX1_streetTold_47 rfl ?_ | refine r_aload_nq dX1_streetTold_47 rfl ?_ | refine r_aload_nN dX1_streetTold_47 rfl ?_
    refine r_invV dX1_streetTold_48 (sp_bl_t hT hB) rfl mo_J11_toString (Or.inl hb1) rfl (lkA q1788) (lkA q765) (lkA q766) rfl (lkA q79) mp_J11_toString (Nat.le_of_ble_eq_true rfl) (by omega) (Nat.le_of_ble_eq_true rfl) (kr_r (fun v9 h9 p9 => ?_)) kx_r
    obtain ⟨s9, rfl, hs9, hx9, hn9, hk9⟩ := p9
    first | exact r_areturn dX1_streetTold_51 rfl rfl ⟨s9, rfl, hs9, hx9, hn9⟩ | exact r_areturnq dX1_streetTold_51 rfl rfl ⟨s9, rfl, hs9, hx9, hn9⟩ | exact r_areturnN dX1_streetTold_51 rfl rfl ⟨s9, rfl, hs9, hx9, hn9⟩
  | succ k ih =>
    intro i H lr hk hB hq
    have hi2 : i < 20 := by omega
    have hix := nIn (show i < 1000 by omega)
    have hcn : (20 : Int32).toInt = ((20 : Nat) : Int) := rfl
    have S1 := St_ext hS hB.2.2
    have hTl := txT_l (fun m hm => (hx m hm).2) i (by omega)
    have hHl := txH_l (t := gTm w i) (dg := gDg w i) (hx i hi2).2
    first | refine r_aload_n dX1_streetTold_16 rfl ?_ | refine r_aload_nq dX1_streetTold_16 rfl ?_ | refine r_aload_nN dX1_streetTold_16 rfl ?_
    refine r_invF dX1_streetTold_17 (sp_J16_hasNext hq (s_1 S1)) rfl mo_J16_hasNext (Or.inl hq) rfl (lkA q517) ⟨q519, q518, q539, q537, q535⟩ ⟨by decide +kernel, by decide +kernel⟩ (lkA q536) (lkA q538) rfl (show _ = some 0 from by decide +kernel) (lkA q85) mp_J16_hasNext (Nat.le_of_ble_eq_true rfl) (Nat.le_of_ble_eq_true rfl) (Nat.le_of_ble_eq_true rfl) (kr_e ?_) kx_e
    refine r_if_eq 47 dX1_streetTold_22 rfl (fun c22 => absurd c22 (by rw [if_neg (fun e => by have := (nI_c (n := 20) (x := 20) rfl (by omega)).mp e; omega)]; decide)) (fun c22 => ?_)
    first | refine r_aload_n dX1_streetTold_25 rfl ?_ | refine r_aload_nq dX1_streetTold_25 rfl ?_ | refine r_aload_nN dX1_streetTold_25 rfl ?_
    refine r_invF dX1_streetTold_26 (sp_J16_next hq (s_1 S1) (s_2 S1) hix (by rw [hcn]; omega) (by omega) (by decide) (fHs_at hi2)) rfl mo_J16_next (Or.inl hq) rfl (lkA q551) ⟨q553, q552, q842, q840, q535⟩ ⟨by decide +kernel, by decide +kernel⟩ (lkA q839) (lkA q841) rfl (show _ = some 0 from by decide +kernel) (lkA q85) mp_J16_next (Nat.le_of_ble_eq_true rfl) (Nat.le_of_ble_eq_true rfl) (Nat.le_of_ble_eq_true rfl) (kr_e ?_) kx_e
    have hB2 := BL_hu (y := bIt (nI i + 1) (nI i) 20 (ad 1)) hB hq rfl h0q
    have S2 := St_ext hS hB2.2.2
    refine r_castS dX1_streetTold_31 (Or.inl (s_h S2 i hi2)) rfl (lkA q176) ?_
    first | refine r_astore_n dX1_streetTold_34 (Nat.le_of_ble_eq_true rfl) ?_ | refine r_astore_nq dX1_streetTold_34 (Nat.le_of_ble_eq_true rfl) ?_ | refine r_astore_nN dX1_streetTold_34 (Nat.le_of_ble_eq_true rfl) ?_
    first | refine r_aload_n dX1_streetTold_35 rfl ?_ | refine r_aload_nq dX1_streetTold_35 rfl ?_ | refine r_aload_nN dX1_streetTold_35 rfl ?_
    first | refine r_aload_n dX1_streetTold_36 rfl ?_ | refine r_aload_nq dX1_streetTold_36 rfl ?_ | refine r_aload_nN dX1_streetTold_36 rfl ?_
    refine r_invV dX1_streetTold_37 (sp_X2_text hT hKC (s_h S2 i hi2) ⟨(hx i hi2).1, by have := (hx i hi2).2; unfold gTm at this; omega⟩) rfl mo_X2_text (Or.inl (s_h S2 i hi2)) rfl (lkA q1774) (lkA q1775) (lkA q1776) rfl (lkA q71) mp_X2_text (Nat.le_of_ble_eq_true rfl) (by omega) (Nat.le_of_ble_eq_true rfl) (kr_r (fun v9 h9 p9 => ?_)) kx_r
    obtain ⟨s9, rfl, hs9, hx9, hn9⟩ := p9
    have hB3 := BL_ext hB2 hx9
    have hq3 := hx9 _ _ (hu_s (h := H) (a := q) (b := bIt (nI i + 1) (nI i) 20 (ad 1)))
    have hb3 := (BL_at hB3).choose_spec
    have ebq : q ≠ b := kd_ne hq3 hb3 (show 16 ≠ 14 by decide)
    refine r_invV dX1_streetTold_40 (sp_bl_s hT hB3 hs9 (by have : (txH (gTm w i) (gDg w i)).length ≤ 2 := hHl; have e9 : (txH (w (53 + 4 * i)) (gDg w i)).length ≤ 2 := hHl; omega)) rfl mo_J11_append (Or.inl hb3) rfl (lkA q1787) (lkA q661) (lkA q662) rfl (lkA q79) mp_J11_append (Nat.le_of_ble_eq_true rfl) (by omega) (Nat.le_of_ble_eq_true rfl) (kr_r (fun v9 h9 p9 => ?_)) kx_r
    obtain ⟨rfl, hB4, hk4⟩ := p9
    have hq4 := hk4 q (bIt (nI i + 1) (nI i) 20 (ad 1)) ebq (show 16 ≠ 101 by decide) hq3
    refine r_pop dX1_streetTold_43 rfl ?_
    refine r_goto 16 dX1_streetTold_44 rfl ?_
    refine V_loc (L' := [(2, .ref q), (1, .ref b), (0, .ref (ad 0))]) ⟨rfl, rfl, rfl, trivial⟩ ?_
    refine (ih (i + 1) _ (nI i) (by omega) hB4 ?_).less (by omega)
    rw [nI_succ]
    exact hq4

set_option maxHeartbeats 4000000 in
set_option maxRecDepth 100000 in
theorem sp_X1_streetTold {G : GG} {h : HP} (hT : KT G) {ka : Nat → Nat} (hKC : KC G ka) {ad : Nat → Nat} {w : Nat → Int32} (hS : St h ad w) (hx : ∀ m, m < 20 → 0 ≤ (gTm w m).toInt ∧ (gTm w m).toInt ≤ 9)  : Ct G 7 33000 M_X1_streetTold [.ref (ad 0)] h (rQ (fun v h' => ∃ s, v = some (.ref s) ∧ ST G h' s (txT w 20) ∧ Ext h h' ∧ h s = none)) := by
  refine ct_intro my_X1_streetTold (Nat.le_of_ble_eq_true rfl) ?_
  refine r_new 14 [.null, .int 0, .int 0, .int 0] dX1_streetTold_0 rfl (lkA q1772) (lkA q371) (lkA q79) (fun j hj => match j, hj with | 0, _ => rfl | 1, _ => rfl | 2, _ => rfl | 3, _ => rfl | k + 4, hk => absurd hk (Nat.not_lt.mpr (Nat.le_add_left 4 k))) (Nat.le_of_ble_eq_true rfl) (fun q0 hq0 => ?_)
  refine r_dup dX1_streetTold_3 rfl ?_
  refine r_invI dX1_streetTold_4 (sp_bl_0 hT hq0) rfl mo_J11_init (lkA q1773) (lkA q373) rfl rfl rfl (lkA q79) mp_J11_init (Nat.le_of_ble_eq_true rfl) (Nat.le_of_ble_eq_true rfl) (Nat.le_of_ble_eq_true rfl) (kr_r (fun v9 h9 p9 => ?_)) kx_r
  obtain ⟨rfl, hB⟩ := p9
  have S1 := St_ext hS hB.2.2
  have hb1 := (BL_at hB).choose_spec
  first | refine r_astore_n dX1_streetTold_7 (Nat.le_of_ble_eq_true rfl) ?_ | refine r_astore_nq dX1_streetTold_7 (Nat.le_of_ble_eq_true rfl) ?_ | refine r_astore_nN dX1_streetTold_7 (Nat.le_of_ble_eq_true rfl) ?_
  first | refine r_aload_n dX1_streetTold_8 rfl ?_ | refine r_aload_nq dX1_streetTold_8 rfl ?_ | refine r_aload_nN dX1_streetTold_8 rfl ?_
  refine r_getfield 1 0 dX1_streetTold_9 rfl (Nat.le_of_ble_eq_true rfl) (lkA q296) (Or.inl rfl) (Or.inl (s_0 S1)) (by rfl) ?_
  refine r_invV dX1_streetTold_12 (sp_J2_iterator (s_1 S1)) rfl mo_J2_iterator (Or.inl (s_1 S1)) rfl (lkA q491) (lkA q492) (lkA q493) rfl (lkA q68) mp_J2_iterator (Nat.le_of_ble_eq_true rfl) (Nat.le_of_ble_eq_true rfl) (Nat.le_of_ble_eq_true rfl) (kr_r (fun v9 h9 p9 => ?_)) kx_r
  obtain ⟨q, rfl, hq, rfl⟩ := p9
  have h0q : h q = none := by
    cases e : h q with
    | none => rfl
    | some x => rw [hB.2.2 _ _ e] at hq; cases hq
  first | refine r_astore_n dX1_streetTold_15 (Nat.le_of_ble_eq_true rfl) ?_ | refine r_astore_nq dX1_streetTold_15 (Nat.le_of_ble_eq_true rfl) ?_ | refine r_astore_nN dX1_streetTold_15 (Nat.le_of_ble_eq_true rfl) ?_
  refine V_loc (L' := [(2, .ref q), (1, .ref q0), (0, .ref (ad 0))]) ⟨rfl, rfl, rfl, trivial⟩ ?_
  exact (lp_street hT hKC hS hx h0q 20 0 _ (-1) rfl (BL_ext hB (Ext.new hq)) hu_s).less (Nat.le_of_ble_eq_true rfl)

