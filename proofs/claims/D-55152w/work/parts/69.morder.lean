set_option maxRecDepth 100000
theorem pO_f {T : List Int32} {p k : Nat} (hk : fK (hereT T p) = some k) (h : (pX T (kch k) (kch k).length 0 p).2 = false) : pO T p = ((pX T (kch k) (kch k).length 0 p).1, none) := by
  have e : pW T p = ((pX T (kch k) (kch k).length 0 p).1, none) := by
    unfold pW
    rw [hk]
    show (_, if (pX T (kch k) (kch k).length 0 p).2 = true then some k else none) = _
    rw [h]
    rfl
  show pb (pW T p) _ = _
  rw [e]
  rfl
theorem pO_t {T : List Int32} {p k : Nat} (hk : fK (hereT T p) = some k) (h : (pX T (kch k) (kch k).length 0 p).2 = true) : pO T p = pA T k (pX T (kch k) (kch k).length 0 p).1 := by
  have e : pW T p = ((pX T (kch k) (kch k).length 0 p).1, some k) := by
    unfold pW
    rw [hk]
    show (_, if (pX T (kch k) (kch k).length 0 p).2 = true then some k else none) = _
    rw [h]
    rfl
  show pb (pW T p) _ = _
  rw [e]
  rfl
theorem pO_nf {T : List Int32} {p : Nat} (hk : fK (hereT T p) = none) : pO T p = (p, none) := by
  have e : pW T p = (p, none) := by
    unfold pW
    rw [hk]
  show pb (pW T p) _ = _
  rw [e]
  rfl
theorem fK_out {c : Int32} (h : c.toInt < 98 ∨ 116 < c.toInt) : fK c = none := by
  cases e : fK c with
  | none => rfl
  | some k =>
    obtain ⟨h7, h8⟩ := fK_i e
    have := of_decide_eq_true (allB_at (n := 7) (p := fun k => decide (98 ≤ ((kch k).getD 0 0).toInt ∧ ((kch k).getD 0 0).toInt ≤ 116)) (by decide +kernel) k h7)
    rw [← h8] at this
    omega
theorem pB_t {T : List Int32} {c : Int32} {m p : Nat} (h : hereT T p = c) : pB T c m p = pN T m (p + 1) := if_pos h
theorem pB_f {T : List Int32} {c : Int32} {m p : Nat} (h : ¬ hereT T p = c) : pB T c m p = (p, none) := if_neg h
def tdQ (a : Ord1) (S : Nat → Nat → Int32) : Prop := (a.1 ≠ 6 → S 6 0 = a.2.1) ∧ ((a.1 = 0 ∨ a.1 = 1 ∨ a.1 = 3) → S 6 1 = a.2.2.1) ∧ ((a.1 = 1 ∨ a.1 = 3) → S 6 2 = a.2.2.2)
def ioQ (A : Nat → Nat) (S0 : Nat → Nat → Int32) (h : HP) (b : Nat × Option Ord1) : Oc → HP → Prop := rQ (fun v h' => v = some (.int (bi b.2.isSome)) ∧ ∃ S', h' = ov (mdH A S') h ∧ mF S0 S' ∧ S' 7 4 = nI b.1 ∧ ∀ a, b.2 = some a → S' 7 5 = (kch a.1).getD 0 0 ∧ tdQ a S')
theorem io_n {A : Nat → Nat} {S0 S : Nat → Nat → Int32} {h : HP} {b : Nat × Option Ord1} {p : Nat} (hb : b = (p, none)) (hF : mF S0 S) (hat : S 7 4 = nI p) : ioQ A S0 h b (.inl (some (.int 0))) (ov (mdH A S) h) := by
  subst hb
  exact ⟨rfl, S, rfl, hF, hat, fun a e => by cases e⟩
theorem io_s {A : Nat → Nat} {S0 S : Nat → Nat → Int32} {h : HP} {b : Nat × Option Ord1} {p : Nat} {a : Ord1} (hb : b = (p, some a)) (hF : mF S0 S) (hat : S 7 4 = nI p) (h5 : S 7 5 = (kch a.1).getD 0 0) (ht : tdQ a S) : ioQ A S0 h b (.inl (some (.int 1))) (ov (mdH A S) h) := by
  subst hb
  exact ⟨rfl, S, rfl, hF, hat, fun x e => by rw [← Option.some.inj e]; exact ⟨h5, ht⟩⟩
set_option maxHeartbeats 4000000 in
set_option maxRecDepth 100000 in
theorem io_0 {G : GG} {A : Nat → Nat} {S : Nat → Nat → Int32} {h : HP} (hi : inj 8 mdom A) (hT : KT G) {ka : Nat → Nat} (hKC : KC G ka) {T : List Int32} {p : Nat} (hM : MT S T) (hat : S 7 4 = nI p) (hp : p ≤ T.length) {S0 : Nat → Nat → Int32} (hF : mF S0 S) (hM0 : MT S0 T) (h5 : S 7 5 = (kch 0).getD 0 0) (hfk : fK (hereT T p) = some 0) {b : Nat × Option Ord1} (hb : b = pO T p) : V G 6 M_X3_isOrder 120 [(0, .ref (A 7))] [] (ov (mdH A S) h) 0 (ioQ A S0 h b) := by
  first | refine r_aload_n dX3_isOrder_120 rfl ?_ | refine r_aload_nq dX3_isOrder_120 rfl ?_ | refine r_aload_nN dX3_isOrder_120 rfl ?_
  refine r_ldcS dX3_isOrder_121 (show Str G "BrushSellersModel" 175 "go " (ka 0) from hKC.1 23 (Nat.le_of_ble_eq_true rfl)) ?_
  refine r_invV dX3_isOrder_123 (sp_wdX hi hT hKC (k := 0) (by decide) hM hat hp hF) rfl mo_X3_word (Or.inl (m_o hi)) rfl (lkA q2132) (lkA q2134) (lkA qs54) rfl (lkA q82) mp_X3_word (Nat.le_of_ble_eq_true rfl) (Nat.le_of_ble_eq_true rfl) (Nat.le_of_ble_eq_true rfl) (kr_r (fun v9 h9 p9 => ?_)) kx_r
  obtain ⟨rfl, S1, rfl, hF1, hat1, h51, h61⟩ := p9
  have hM1 := MT_F hM0 hF1
  have h5c := h51.trans h5
  have hq1 : (pX T (kch 0) (kch 0).length 0 p).1 ≤ T.length := (pX_le (kch_as (by decide)) _ 0 p (by omega) hp).2
  refine r_if_eq 160 dX3_isOrder_126 rfl (fun c1 => ?_) (fun c1 => ?_)
  · refine r_iconst (v := 0) dX3_isOrder_160 rfl ?_
    exact r_ireturn dX3_isOrder_161 rfl (by first | rfl | exact bi_nar) (io_n (by rw [hb, pO_f hfk (bi_0.mp c1)]) hF1 hat1)
  · first | refine r_aload_n dX3_isOrder_129 rfl ?_ | refine r_aload_nq dX3_isOrder_129 rfl ?_ | refine r_aload_nN dX3_isOrder_129 rfl ?_
    refine r_iconst (v := 0) dX3_isOrder_130 rfl ?_
    refine r_iconst (v := 1) dX3_isOrder_131 rfl ?_
    rw [pO_t hfk (bi_n0.mp c1), pA_0] at hb
    refine r_invV dX3_isOrder_132 (sp_dgX hi hT hKC (x := 1) (m := 1) (y := 0) (k := 0) rfl (by decide) (by decide) rfl (by decide) hM1 hat1 hq1 hF1) rfl mo_X3_digits (Or.inl (m_o hi)) rfl (lkA q2138) (lkA q2140) (lkA qs55) rfl (lkA q82) mp_X3_digits (Nat.le_of_ble_eq_true rfl) (Nat.le_of_ble_eq_true rfl) (Nat.le_of_ble_eq_true rfl) (kr_r (fun v9 h9 p9 => ?_)) kx_r
    obtain ⟨rfl, S2, rfl, hF2, hat2, h52, h62, hv2⟩ := p9
    have hM2 := MT_F hM0 hF2
    have h5c := h52.trans h5c
    refine r_if_eq 160 dX3_isOrder_135 rfl (fun c2 => ?_) (fun c2 => ?_)
    · refine r_iconst (v := 0) dX3_isOrder_160 rfl ?_
      exact r_ireturn dX3_isOrder_161 rfl (by first | rfl | exact bi_nar) (io_n (by rw [hb, pb_n (op_n c2)]) hF2 hat2)
    · obtain ⟨x2, hx2⟩ := opt_s c2
      rw [pb_s hx2] at hb
      try dsimp only at hb
      have t0 := hv2 x2 hx2
      have hq2 := (pN_le (m := 1) hq1).2
      first | refine r_aload_n dX3_isOrder_138 rfl ?_ | refine r_aload_nq dX3_isOrder_138 rfl ?_ | refine r_aload_nN dX3_isOrder_138 rfl ?_
      refine r_ldcS dX3_isOrder_139 (show Str G "BrushSellersModel" 177 ">" (ka 16) from hKC.1 24 (Nat.le_of_ble_eq_true rfl)) ?_
      refine r_invV dX3_isOrder_141 (sp_sgX hi hT hKC (k := 16) (c := 62) (by decide) rfl hM2 hat2 hq2 hF2) rfl mo_X3_word (Or.inl (m_o hi)) rfl (lkA q2132) (lkA q2134) (lkA qs54) rfl (lkA q82) mp_X3_word (Nat.le_of_ble_eq_true rfl) (Nat.le_of_ble_eq_true rfl) (Nat.le_of_ble_eq_true rfl) (kr_r (fun v9 h9 p9 => ?_)) kx_r
      obtain ⟨rfl, S3, rfl, hF3, hat3, h53, h63⟩ := p9
      have hM3 := MT_F hM0 hF3
      have h5c := h53.trans h5c
      have t0 := (congrFun h63 0).trans t0
      refine r_if_eq 160 dX3_isOrder_144 rfl (fun c3 => ?_) (fun c3 => ?_)
      · refine r_iconst (v := 0) dX3_isOrder_160 rfl ?_
        exact r_ireturn dX3_isOrder_161 rfl (by first | rfl | exact bi_nar) (by have e9 := of_decide_eq_false (bi_0.mp c3); rw [if_neg e9] at hat3; exact io_n (by rw [hb, pB_f e9]; rfl) hF3 hat3)
      · have e3 := of_decide_eq_true (bi_n0.mp c3)
        rw [if_pos e3] at hat3
        rw [pB_t e3] at hb
        have hl3 := here_e e3 (by decide)
        first | refine r_aload_n dX3_isOrder_147 rfl ?_ | refine r_aload_nq dX3_isOrder_147 rfl ?_ | refine r_aload_nN dX3_isOrder_147 rfl ?_
        refine r_iconst (v := 1) dX3_isOrder_148 rfl ?_
        refine r_iconst (v := 2) dX3_isOrder_149 rfl ?_
        refine r_invV dX3_isOrder_150 (sp_dgX hi hT hKC (x := 2) (m := 2) (y := 1) (k := 1) rfl (by decide) (by decide) rfl (by decide) hM3 hat3 hl3 hF3) rfl mo_X3_digits (Or.inl (m_o hi)) rfl (lkA q2138) (lkA q2140) (lkA qs55) rfl (lkA q82) mp_X3_digits (Nat.le_of_ble_eq_true rfl) (Nat.le_of_ble_eq_true rfl) (Nat.le_of_ble_eq_true rfl) (kr_r (fun v9 h9 p9 => ?_)) kx_r
        obtain ⟨rfl, S4, rfl, hF4, hat4, h54, h64, hv4⟩ := p9
        have hM4 := MT_F hM0 hF4
        have h5c := h54.trans h5c
        have t0 := (h64 0 (by decide)).trans t0
        refine r_if_eq 160 dX3_isOrder_153 rfl (fun c4 => ?_) (fun c4 => ?_)
        · refine r_iconst (v := 0) dX3_isOrder_160 rfl ?_
          exact r_ireturn dX3_isOrder_161 rfl (by first | rfl | exact bi_nar) (io_n (by rw [hb, pb_n (op_n c4)]) hF4 hat4)
        · obtain ⟨x4, hx4⟩ := opt_s c4
          rw [pb_s hx4] at hb
          try dsimp only at hb
          have t1 := hv4 x4 hx4
          have hq4 := (pN_le (m := 2) hl3).2
          refine r_iconst (v := 1) dX3_isOrder_156 rfl ?_
          refine r_goto 161 dX3_isOrder_157 rfl ?_
          exact r_ireturn dX3_isOrder_161 rfl (by first | rfl | exact bi_nar) (io_s hb hF4 hat4 h5c ⟨fun _ => t0, fun _ => t1, fun h => absurd h (show ¬ (0 = 1 ∨ 0 = 3) by decide)⟩)

set_option maxHeartbeats 4000000 in
set_option maxRecDepth 100000 in
theorem io_1 {G : GG} {A : Nat → Nat} {S : Nat → Nat → Int32} {h : HP} (hi : inj 8 mdom A) (hT : KT G) {ka : Nat → Nat} (hKC : KC G ka) {T : List Int32} {p : Nat} (hM : MT S T) (hat : S 7 4 = nI p) (hp : p ≤ T.length) {S0 : Nat → Nat → Int32} (hF : mF S0 S) (hM0 : MT S0 T) (h5 : S 7 5 = (kch 1).getD 0 0) (hfk : fK (hereT T p) = some 1) {b : Nat × Option Ord1} (hb : b = pO T p) : V G 6 M_X3_isOrder 162 [(0, .ref (A 7))] [] (ov (mdH A S) h) 0 (ioQ A S0 h b) := by
  first | refine r_aload_n dX3_isOrder_162 rfl ?_ | refine r_aload_nq dX3_isOrder_162 rfl ?_ | refine r_aload_nN dX3_isOrder_162 rfl ?_
  refine r_ldcS dX3_isOrder_163 (show Str G "BrushSellersModel" 179 "ring " (ka 1) from hKC.1 25 (Nat.le_of_ble_eq_true rfl)) ?_
  refine r_invV dX3_isOrder_165 (sp_wdX hi hT hKC (k := 1) (by decide) hM hat hp hF) rfl mo_X3_word (Or.inl (m_o hi)) rfl (lkA q2132) (lkA q2134) (lkA qs54) rfl (lkA q82) mp_X3_word (Nat.le_of_ble_eq_true rfl) (Nat.le_of_ble_eq_true rfl) (Nat.le_of_ble_eq_true rfl) (kr_r (fun v9 h9 p9 => ?_)) kx_r
  obtain ⟨rfl, S1, rfl, hF1, hat1, h51, h61⟩ := p9
  have hM1 := MT_F hM0 hF1
  have h5c := h51.trans h5
  have hq1 : (pX T (kch 1) (kch 1).length 0 p).1 ≤ T.length := (pX_le (kch_as (by decide)) _ 0 p (by omega) hp).2
  refine r_if_eq 220 dX3_isOrder_168 rfl (fun c1 => ?_) (fun c1 => ?_)
  · refine r_iconst (v := 0) dX3_isOrder_220 rfl ?_
    exact r_ireturn dX3_isOrder_221 rfl (by first | rfl | exact bi_nar) (io_n (by rw [hb, pO_f hfk (bi_0.mp c1)]) hF1 hat1)
  · first | refine r_aload_n dX3_isOrder_171 rfl ?_ | refine r_aload_nq dX3_isOrder_171 rfl ?_ | refine r_aload_nN dX3_isOrder_171 rfl ?_
    refine r_iconst (v := 0) dX3_isOrder_172 rfl ?_
    refine r_iconst (v := 1) dX3_isOrder_173 rfl ?_
    rw [pO_t hfk (bi_n0.mp c1), pA_1] at hb
    refine r_invV dX3_isOrder_174 (sp_dgX hi hT hKC (x := 1) (m := 1) (y := 0) (k := 0) rfl (by decide) (by decide) rfl (by decide) hM1 hat1 hq1 hF1) rfl mo_X3_digits (Or.inl (m_o hi)) rfl (lkA q2138) (lkA q2140) (lkA qs55) rfl (lkA q82) mp_X3_digits (Nat.le_of_ble_eq_true rfl) (Nat.le_of_ble_eq_true rfl) (Nat.le_of_ble_eq_true rfl) (kr_r (fun v9 h9 p9 => ?_)) kx_r
    obtain ⟨rfl, S2, rfl, hF2, hat2, h52, h62, hv2⟩ := p9
    have hM2 := MT_F hM0 hF2
    have h5c := h52.trans h5c
    refine r_if_eq 220 dX3_isOrder_177 rfl (fun c2 => ?_) (fun c2 => ?_)
    · refine r_iconst (v := 0) dX3_isOrder_220 rfl ?_
      exact r_ireturn dX3_isOrder_221 rfl (by first | rfl | exact bi_nar) (io_n (by rw [hb, pb_n (op_n c2)]) hF2 hat2)
    · obtain ⟨x2, hx2⟩ := opt_s c2
      rw [pb_s hx2] at hb
      try dsimp only at hb
      have t0 := hv2 x2 hx2
      have hq2 := (pN_le (m := 1) hq1).2
      first | refine r_aload_n dX3_isOrder_180 rfl ?_ | refine r_aload_nq dX3_isOrder_180 rfl ?_ | refine r_aload_nN dX3_isOrder_180 rfl ?_
      refine r_ldcS dX3_isOrder_181 (show Str G "BrushSellersModel" 181 " " (ka 17) from hKC.1 26 (Nat.le_of_ble_eq_true rfl)) ?_
      refine r_invV dX3_isOrder_183 (sp_sgX hi hT hKC (k := 17) (c := 32) (by decide) rfl hM2 hat2 hq2 hF2) rfl mo_X3_word (Or.inl (m_o hi)) rfl (lkA q2132) (lkA q2134) (lkA qs54) rfl (lkA q82) mp_X3_word (Nat.le_of_ble_eq_true rfl) (Nat.le_of_ble_eq_true rfl) (Nat.le_of_ble_eq_true rfl) (kr_r (fun v9 h9 p9 => ?_)) kx_r
      obtain ⟨rfl, S3, rfl, hF3, hat3, h53, h63⟩ := p9
      have hM3 := MT_F hM0 hF3
      have h5c := h53.trans h5c
      have t0 := (congrFun h63 0).trans t0
      refine r_if_eq 220 dX3_isOrder_186 rfl (fun c3 => ?_) (fun c3 => ?_)
      · refine r_iconst (v := 0) dX3_isOrder_220 rfl ?_
        exact r_ireturn dX3_isOrder_221 rfl (by first | rfl | exact bi_nar) (by have e9 := of_decide_eq_false (bi_0.mp c3); rw [if_neg e9] at hat3; exact io_n (by rw [hb, pB_f e9]; rfl) hF3 hat3)
      · have e3 := of_decide_eq_true (bi_n0.mp c3)
        rw [if_pos e3] at hat3
        rw [pB_t e3] at hb
        have hl3 := here_e e3 (by decide)
        first | refine r_aload_n dX3_isOrder_189 rfl ?_ | refine r_aload_nq dX3_isOrder_189 rfl ?_ | refine r_aload_nN dX3_isOrder_189 rfl ?_
        refine r_iconst (v := 1) dX3_isOrder_190 rfl ?_
        refine r_iconst (v := 1) dX3_isOrder_191 rfl ?_
        refine r_invV dX3_isOrder_192 (sp_dgX hi hT hKC (x := 1) (m := 1) (y := 1) (k := 1) rfl (by decide) (by decide) rfl (by decide) hM3 hat3 hl3 hF3) rfl mo_X3_digits (Or.inl (m_o hi)) rfl (lkA q2138) (lkA q2140) (lkA qs55) rfl (lkA q82) mp_X3_digits (Nat.le_of_ble_eq_true rfl) (Nat.le_of_ble_eq_true rfl) (Nat.le_of_ble_eq_true rfl) (kr_r (fun v9 h9 p9 => ?_)) kx_r
        obtain ⟨rfl, S4, rfl, hF4, hat4, h54, h64, hv4⟩ := p9
        have hM4 := MT_F hM0 hF4
        have h5c := h54.trans h5c
        have t0 := (h64 0 (by decide)).trans t0
        refine r_if_eq 220 dX3_isOrder_195 rfl (fun c4 => ?_) (fun c4 => ?_)
        · refine r_iconst (v := 0) dX3_isOrder_220 rfl ?_
          exact r_ireturn dX3_isOrder_221 rfl (by first | rfl | exact bi_nar) (io_n (by rw [hb, pb_n (op_n c4)]) hF4 hat4)
        · obtain ⟨x4, hx4⟩ := opt_s c4
          rw [pb_s hx4] at hb
          try dsimp only at hb
          have t1 := hv4 x4 hx4
          have hq4 := (pN_le (m := 1) hl3).2
          first | refine r_aload_n dX3_isOrder_198 rfl ?_ | refine r_aload_nq dX3_isOrder_198 rfl ?_ | refine r_aload_nN dX3_isOrder_198 rfl ?_
          refine r_ldcS dX3_isOrder_199 (show Str G "BrushSellersModel" 183 "=" (ka 18) from hKC.1 27 (Nat.le_of_ble_eq_true rfl)) ?_
          refine r_invV dX3_isOrder_201 (sp_sgX hi hT hKC (k := 18) (c := 61) (by decide) rfl hM4 hat4 hq4 hF4) rfl mo_X3_word (Or.inl (m_o hi)) rfl (lkA q2132) (lkA q2134) (lkA qs54) rfl (lkA q82) mp_X3_word (Nat.le_of_ble_eq_true rfl) (Nat.le_of_ble_eq_true rfl) (Nat.le_of_ble_eq_true rfl) (kr_r (fun v9 h9 p9 => ?_)) kx_r
          obtain ⟨rfl, S5, rfl, hF5, hat5, h55, h65⟩ := p9
          have hM5 := MT_F hM0 hF5
          have h5c := h55.trans h5c
          have t0 := (congrFun h65 0).trans t0
          have t1 := (congrFun h65 1).trans t1
          refine r_if_eq 220 dX3_isOrder_204 rfl (fun c5 => ?_) (fun c5 => ?_)
          · refine r_iconst (v := 0) dX3_isOrder_220 rfl ?_
            exact r_ireturn dX3_isOrder_221 rfl (by first | rfl | exact bi_nar) (by have e9 := of_decide_eq_false (bi_0.mp c5); rw [if_neg e9] at hat5; exact io_n (by rw [hb, pB_f e9]; rfl) hF5 hat5)
          · have e5 := of_decide_eq_true (bi_n0.mp c5)
            rw [if_pos e5] at hat5
            rw [pB_t e5] at hb
            have hl5 := here_e e5 (by decide)
            first | refine r_aload_n dX3_isOrder_207 rfl ?_ | refine r_aload_nq dX3_isOrder_207 rfl ?_ | refine r_aload_nN dX3_isOrder_207 rfl ?_
            refine r_iconst (v := 2) dX3_isOrder_208 rfl ?_
            refine r_iconst (v := 2) dX3_isOrder_209 rfl ?_
            refine r_invV dX3_isOrder_210 (sp_dgX hi hT hKC (x := 2) (m := 2) (y := 2) (k := 2) rfl (by decide) (by decide) rfl (by decide) hM5 hat5 hl5 hF5) rfl mo_X3_digits (Or.inl (m_o hi)) rfl (lkA q2138) (lkA q2140) (lkA qs55) rfl (lkA q82) mp_X3_digits (Nat.le_of_ble_eq_true rfl) (Nat.le_of_ble_eq_true rfl) (Nat.le_of_ble_eq_true rfl) (kr_r (fun v9 h9 p9 => ?_)) kx_r
            obtain ⟨rfl, S6, rfl, hF6, hat6, h56, h66, hv6⟩ := p9
            have hM6 := MT_F hM0 hF6
            have h5c := h56.trans h5c
            have t0 := (h66 0 (by decide)).trans t0
            have t1 := (h66 1 (by decide)).trans t1
            refine r_if_eq 220 dX3_isOrder_213 rfl (fun c6 => ?_) (fun c6 => ?_)
            · refine r_iconst (v := 0) dX3_isOrder_220 rfl ?_
              exact r_ireturn dX3_isOrder_221 rfl (by first | rfl | exact bi_nar) (io_n (by rw [hb, pb_n (op_n c6)]) hF6 hat6)
            · obtain ⟨x6, hx6⟩ := opt_s c6
              rw [pb_s hx6] at hb
              try dsimp only at hb
              have t2 := hv6 x6 hx6
              have hq6 := (pN_le (m := 2) hl5).2
              refine r_iconst (v := 1) dX3_isOrder_216 rfl ?_
              refine r_goto 221 dX3_isOrder_217 rfl ?_
              exact r_ireturn dX3_isOrder_221 rfl (by first | rfl | exact bi_nar) (io_s hb hF6 hat6 h5c ⟨fun _ => t0, fun _ => t1, fun _ => t2⟩)

set_option maxHeartbeats 4000000 in
set_option maxRecDepth 100000 in
theorem io_2 {G : GG} {A : Nat → Nat} {S : Nat → Nat → Int32} {h : HP} (hi : inj 8 mdom A) (hT : KT G) {ka : Nat → Nat} (hKC : KC G ka) {T : List Int32} {p : Nat} (hM : MT S T) (hat : S 7 4 = nI p) (hp : p ≤ T.length) {S0 : Nat → Nat → Int32} (hF : mF S0 S) (hM0 : MT S0 T) (h5 : S 7 5 = (kch 2).getD 0 0) (hfk : fK (hereT T p) = some 2) {b : Nat × Option Ord1} (hb : b = pO T p) : V G 6 M_X3_isOrder 222 [(0, .ref (A 7))] [] (ov (mdH A S) h) 0 (ioQ A S0 h b) := by
  first | refine r_aload_n dX3_isOrder_222 rfl ?_ | refine r_aload_nq dX3_isOrder_222 rfl ?_ | refine r_aload_nN dX3_isOrder_222 rfl ?_
  refine r_ldcS dX3_isOrder_223 (show Str G "BrushSellersModel" 185 "pet " (ka 2) from hKC.1 28 (Nat.le_of_ble_eq_true rfl)) ?_
  refine r_invV dX3_isOrder_225 (sp_wdX hi hT hKC (k := 2) (by decide) hM hat hp hF) rfl mo_X3_word (Or.inl (m_o hi)) rfl (lkA q2132) (lkA q2134) (lkA qs54) rfl (lkA q82) mp_X3_word (Nat.le_of_ble_eq_true rfl) (Nat.le_of_ble_eq_true rfl) (Nat.le_of_ble_eq_true rfl) (kr_r (fun v9 h9 p9 => ?_)) kx_r
  obtain ⟨rfl, S1, rfl, hF1, hat1, h51, h61⟩ := p9
  have hM1 := MT_F hM0 hF1
  have h5c := h51.trans h5
  have hq1 : (pX T (kch 2) (kch 2).length 0 p).1 ≤ T.length := (pX_le (kch_as (by decide)) _ 0 p (by omega) hp).2
  refine r_if_eq 244 dX3_isOrder_228 rfl (fun c1 => ?_) (fun c1 => ?_)
  · refine r_iconst (v := 0) dX3_isOrder_244 rfl ?_
    exact r_ireturn dX3_isOrder_245 rfl (by first | rfl | exact bi_nar) (io_n (by rw [hb, pO_f hfk (bi_0.mp c1)]) hF1 hat1)
  · first | refine r_aload_n dX3_isOrder_231 rfl ?_ | refine r_aload_nq dX3_isOrder_231 rfl ?_ | refine r_aload_nN dX3_isOrder_231 rfl ?_
    refine r_iconst (v := 0) dX3_isOrder_232 rfl ?_
    refine r_iconst (v := 1) dX3_isOrder_233 rfl ?_
    rw [pO_t hfk (bi_n0.mp c1), pA_2] at hb
    refine r_invV dX3_isOrder_234 (sp_dgX hi hT hKC (x := 1) (m := 1) (y := 0) (k := 0) rfl (by decide) (by decide) rfl (by decide) hM1 hat1 hq1 hF1) rfl mo_X3_digits (Or.inl (m_o hi)) rfl (lkA q2138) (lkA q2140) (lkA qs55) rfl (lkA q82) mp_X3_digits (Nat.le_of_ble_eq_true rfl) (Nat.le_of_ble_eq_true rfl) (Nat.le_of_ble_eq_true rfl) (kr_r (fun v9 h9 p9 => ?_)) kx_r
    obtain ⟨rfl, S2, rfl, hF2, hat2, h52, h62, hv2⟩ := p9
    have hM2 := MT_F hM0 hF2
    have h5c := h52.trans h5c
    refine r_if_eq 244 dX3_isOrder_237 rfl (fun c2 => ?_) (fun c2 => ?_)
    · refine r_iconst (v := 0) dX3_isOrder_244 rfl ?_
      exact r_ireturn dX3_isOrder_245 rfl (by first | rfl | exact bi_nar) (io_n (by rw [hb, pb_n (op_n c2)]) hF2 hat2)
    · obtain ⟨x2, hx2⟩ := opt_s c2
      rw [pb_s hx2] at hb
      try dsimp only at hb
      have t0 := hv2 x2 hx2
      have hq2 := (pN_le (m := 1) hq1).2
      refine r_iconst (v := 1) dX3_isOrder_240 rfl ?_
      refine r_goto 245 dX3_isOrder_241 rfl ?_
      exact r_ireturn dX3_isOrder_245 rfl (by first | rfl | exact bi_nar) (io_s hb hF2 hat2 h5c ⟨fun _ => t0, fun h => absurd h (show ¬ (2 = 0 ∨ 2 = 1 ∨ 2 = 3) by decide), fun h => absurd h (show ¬ (2 = 1 ∨ 2 = 3) by decide)⟩)

set_option maxHeartbeats 4000000 in
set_option maxRecDepth 100000 in
theorem io_3 {G : GG} {A : Nat → Nat} {S : Nat → Nat → Int32} {h : HP} (hi : inj 8 mdom A) (hT : KT G) {ka : Nat → Nat} (hKC : KC G ka) {T : List Int32} {p : Nat} (hM : MT S T) (hat : S 7 4 = nI p) (hp : p ≤ T.length) {S0 : Nat → Nat → Int32} (hF : mF S0 S) (hM0 : MT S0 T) (h5 : S 7 5 = (kch 3).getD 0 0) (hfk : fK (hereT T p) = some 3) {b : Nat × Option Ord1} (hb : b = pO T p) : V G 6 M_X3_isOrder 246 [(0, .ref (A 7))] [] (ov (mdH A S) h) 0 (ioQ A S0 h b) := by
  first | refine r_aload_n dX3_isOrder_246 rfl ?_ | refine r_aload_nq dX3_isOrder_246 rfl ?_ | refine r_aload_nN dX3_isOrder_246 rfl ?_
  refine r_ldcS dX3_isOrder_247 (show Str G "BrushSellersModel" 187 "take " (ka 3) from hKC.1 29 (Nat.le_of_ble_eq_true rfl)) ?_
  refine r_invV dX3_isOrder_249 (sp_wdX hi hT hKC (k := 3) (by decide) hM hat hp hF) rfl mo_X3_word (Or.inl (m_o hi)) rfl (lkA q2132) (lkA q2134) (lkA qs54) rfl (lkA q82) mp_X3_word (Nat.le_of_ble_eq_true rfl) (Nat.le_of_ble_eq_true rfl) (Nat.le_of_ble_eq_true rfl) (kr_r (fun v9 h9 p9 => ?_)) kx_r
  obtain ⟨rfl, S1, rfl, hF1, hat1, h51, h61⟩ := p9
  have hM1 := MT_F hM0 hF1
  have h5c := h51.trans h5
  have hq1 : (pX T (kch 3) (kch 3).length 0 p).1 ≤ T.length := (pX_le (kch_as (by decide)) _ 0 p (by omega) hp).2
  refine r_if_eq 294 dX3_isOrder_252 rfl (fun c1 => ?_) (fun c1 => ?_)
  · refine r_iconst (v := 0) dX3_isOrder_294 rfl ?_
    exact r_ireturn dX3_isOrder_295 rfl (by first | rfl | exact bi_nar) (io_n (by rw [hb, pO_f hfk (bi_0.mp c1)]) hF1 hat1)
  · first | refine r_aload_n dX3_isOrder_255 rfl ?_ | refine r_aload_nq dX3_isOrder_255 rfl ?_ | refine r_aload_nN dX3_isOrder_255 rfl ?_
    refine r_iconst (v := 0) dX3_isOrder_256 rfl ?_
    refine r_iconst (v := 1) dX3_isOrder_257 rfl ?_
    rw [pO_t hfk (bi_n0.mp c1), pA_3] at hb
    refine r_invV dX3_isOrder_258 (sp_dgX hi hT hKC (x := 1) (m := 1) (y := 0) (k := 0) rfl (by decide) (by decide) rfl (by decide) hM1 hat1 hq1 hF1) rfl mo_X3_digits (Or.inl (m_o hi)) rfl (lkA q2138) (lkA q2140) (lkA qs55) rfl (lkA q82) mp_X3_digits (Nat.le_of_ble_eq_true rfl) (Nat.le_of_ble_eq_true rfl) (Nat.le_of_ble_eq_true rfl) (kr_r (fun v9 h9 p9 => ?_)) kx_r
    obtain ⟨rfl, S2, rfl, hF2, hat2, h52, h62, hv2⟩ := p9
    have hM2 := MT_F hM0 hF2
    have h5c := h52.trans h5c
    refine r_if_eq 294 dX3_isOrder_261 rfl (fun c2 => ?_) (fun c2 => ?_)
    · refine r_iconst (v := 0) dX3_isOrder_294 rfl ?_
      exact r_ireturn dX3_isOrder_295 rfl (by first | rfl | exact bi_nar) (io_n (by rw [hb, pb_n (op_n c2)]) hF2 hat2)
    · obtain ⟨x2, hx2⟩ := opt_s c2
      rw [pb_s hx2] at hb
      try dsimp only at hb
      have t0 := hv2 x2 hx2
      have hq2 := (pN_le (m := 1) hq1).2
      first | refine r_aload_n dX3_isOrder_264 rfl ?_ | refine r_aload_nq dX3_isOrder_264 rfl ?_ | refine r_aload_nN dX3_isOrder_264 rfl ?_
      refine r_ldcS dX3_isOrder_265 (show Str G "BrushSellersModel" 181 " " (ka 17) from hKC.1 26 (Nat.le_of_ble_eq_true rfl)) ?_
      refine r_invV dX3_isOrder_267 (sp_sgX hi hT hKC (k := 17) (c := 32) (by decide) rfl hM2 hat2 hq2 hF2) rfl mo_X3_word (Or.inl (m_o hi)) rfl (lkA q2132) (lkA q2134) (lkA qs54) rfl (lkA q82) mp_X3_word (Nat.le_of_ble_eq_true rfl) (Nat.le_of_ble_eq_true rfl) (Nat.le_of_ble_eq_true rfl) (kr_r (fun v9 h9 p9 => ?_)) kx_r
      obtain ⟨rfl, S3, rfl, hF3, hat3, h53, h63⟩ := p9
      have hM3 := MT_F hM0 hF3
      have h5c := h53.trans h5c
      have t0 := (congrFun h63 0).trans t0
      refine r_if_eq 294 dX3_isOrder_270 rfl (fun c3 => ?_) (fun c3 => ?_)
      · refine r_iconst (v := 0) dX3_isOrder_294 rfl ?_
        exact r_ireturn dX3_isOrder_295 rfl (by first | rfl | exact bi_nar) (by have e9 := of_decide_eq_false (bi_0.mp c3); rw [if_neg e9] at hat3; exact io_n (by rw [hb, pB_f e9]; rfl) hF3 hat3)
      · have e3 := of_decide_eq_true (bi_n0.mp c3)
        rw [if_pos e3] at hat3
        rw [pB_t e3] at hb
        have hl3 := here_e e3 (by decide)
        first | refine r_aload_n dX3_isOrder_273 rfl ?_ | refine r_aload_nq dX3_isOrder_273 rfl ?_ | refine r_aload_nN dX3_isOrder_273 rfl ?_
        refine r_iconst (v := 1) dX3_isOrder_274 rfl ?_
        refine r_iconst (v := 1) dX3_isOrder_275 rfl ?_
        refine r_invV dX3_isOrder_276 (sp_dgX hi hT hKC (x := 1) (m := 1) (y := 1) (k := 1) rfl (by decide) (by decide) rfl (by decide) hM3 hat3 hl3 hF3) rfl mo_X3_digits (Or.inl (m_o hi)) rfl (lkA q2138) (lkA q2140) (lkA qs55) rfl (lkA q82) mp_X3_digits (Nat.le_of_ble_eq_true rfl) (Nat.le_of_ble_eq_true rfl) (Nat.le_of_ble_eq_true rfl) (kr_r (fun v9 h9 p9 => ?_)) kx_r
        obtain ⟨rfl, S4, rfl, hF4, hat4, h54, h64, hv4⟩ := p9
        have hM4 := MT_F hM0 hF4
        have h5c := h54.trans h5c
        have t0 := (h64 0 (by decide)).trans t0
        refine r_if_eq 294 dX3_isOrder_279 rfl (fun c4 => ?_) (fun c4 => ?_)
        · refine r_iconst (v := 0) dX3_isOrder_294 rfl ?_
          exact r_ireturn dX3_isOrder_295 rfl (by first | rfl | exact bi_nar) (io_n (by rw [hb, pb_n (op_n c4)]) hF4 hat4)
        · obtain ⟨x4, hx4⟩ := opt_s c4
          rw [pb_s hx4] at hb
          try dsimp only at hb
          have t1 := hv4 x4 hx4
          have hq4 := (pN_le (m := 1) hl3).2
          first | refine r_aload_n dX3_isOrder_282 rfl ?_ | refine r_aload_nq dX3_isOrder_282 rfl ?_ | refine r_aload_nN dX3_isOrder_282 rfl ?_
          refine r_iconst (v := 2) dX3_isOrder_283 rfl ?_
          refine r_invV dX3_isOrder_284 (sp_X3_signed hi hT hKC (y := 2) (k := 2) rfl (by decide) hM4 hat4 hq4 hF4 hM0) rfl mo_X3_signed (Or.inl (m_o hi)) rfl (lkA q2148) (lkA q2150) (lkA qs56) rfl (lkA q82) mp_X3_signed (Nat.le_of_ble_eq_true rfl) (Nat.le_of_ble_eq_true rfl) (Nat.le_of_ble_eq_true rfl) (kr_r (fun v9 h9 p9 => ?_)) kx_r
          obtain ⟨rfl, S5, rfl, hF5, hat5, h55, h65, hv5⟩ := p9
          have hM5 := MT_F hM0 hF5
          have h5c := h55.trans h5c
          have t0 := (h65 0 (by decide)).trans t0
          have t1 := (h65 1 (by decide)).trans t1
          refine r_if_eq 294 dX3_isOrder_287 rfl (fun c5 => ?_) (fun c5 => ?_)
          · refine r_iconst (v := 0) dX3_isOrder_294 rfl ?_
            exact r_ireturn dX3_isOrder_295 rfl (by first | rfl | exact bi_nar) (io_n (by rw [hb, pb_n (op_n c5)]) hF5 hat5)
          · obtain ⟨x5, hx5⟩ := opt_s c5
            rw [pb_s hx5] at hb
            try dsimp only at hb
            have t2 := hv5 x5 hx5
            have hq5 := (pS_le hq4).2
            refine r_iconst (v := 1) dX3_isOrder_290 rfl ?_
            refine r_goto 295 dX3_isOrder_291 rfl ?_
            exact r_ireturn dX3_isOrder_295 rfl (by first | rfl | exact bi_nar) (io_s hb hF5 hat5 h5c ⟨fun _ => t0, fun _ => t1, fun _ => t2⟩)

set_option maxHeartbeats 4000000 in
set_option maxRecDepth 100000 in
theorem io_4 {G : GG} {A : Nat → Nat} {S : Nat → Nat → Int32} {h : HP} (hi : inj 8 mdom A) (hT : KT G) {ka : Nat → Nat} (hKC : KC G ka) {T : List Int32} {p : Nat} (hM : MT S T) (hat : S 7 4 = nI p) (hp : p ≤ T.length) {S0 : Nat → Nat → Int32} (hF : mF S0 S) (hM0 : MT S0 T) (h5 : S 7 5 = (kch 4).getD 0 0) (hfk : fK (hereT T p) = some 4) {b : Nat × Option Ord1} (hb : b = pO T p) : V G 6 M_X3_isOrder 296 [(0, .ref (A 7))] [] (ov (mdH A S) h) 0 (ioQ A S0 h b) := by
  first | refine r_aload_n dX3_isOrder_296 rfl ?_ | refine r_aload_nq dX3_isOrder_296 rfl ?_ | refine r_aload_nN dX3_isOrder_296 rfl ?_
  refine r_ldcS dX3_isOrder_297 (show Str G "BrushSellersModel" 192 "back " (ka 4) from hKC.1 30 (Nat.le_of_ble_eq_true rfl)) ?_
  refine r_invV dX3_isOrder_299 (sp_wdX hi hT hKC (k := 4) (by decide) hM hat hp hF) rfl mo_X3_word (Or.inl (m_o hi)) rfl (lkA q2132) (lkA q2134) (lkA qs54) rfl (lkA q82) mp_X3_word (Nat.le_of_ble_eq_true rfl) (Nat.le_of_ble_eq_true rfl) (Nat.le_of_ble_eq_true rfl) (kr_r (fun v9 h9 p9 => ?_)) kx_r
  obtain ⟨rfl, S1, rfl, hF1, hat1, h51, h61⟩ := p9
  have hM1 := MT_F hM0 hF1
  have h5c := h51.trans h5
  have hq1 : (pX T (kch 4) (kch 4).length 0 p).1 ≤ T.length := (pX_le (kch_as (by decide)) _ 0 p (by omega) hp).2
  refine r_if_eq 318 dX3_isOrder_302 rfl (fun c1 => ?_) (fun c1 => ?_)
  · refine r_iconst (v := 0) dX3_isOrder_318 rfl ?_
    exact r_ireturn dX3_isOrder_319 rfl (by first | rfl | exact bi_nar) (io_n (by rw [hb, pO_f hfk (bi_0.mp c1)]) hF1 hat1)
  · first | refine r_aload_n dX3_isOrder_305 rfl ?_ | refine r_aload_nq dX3_isOrder_305 rfl ?_ | refine r_aload_nN dX3_isOrder_305 rfl ?_
    refine r_iconst (v := 0) dX3_isOrder_306 rfl ?_
    refine r_iconst (v := 2) dX3_isOrder_307 rfl ?_
    rw [pO_t hfk (bi_n0.mp c1), pA_4] at hb
    refine r_invV dX3_isOrder_308 (sp_dgX hi hT hKC (x := 2) (m := 2) (y := 0) (k := 0) rfl (by decide) (by decide) rfl (by decide) hM1 hat1 hq1 hF1) rfl mo_X3_digits (Or.inl (m_o hi)) rfl (lkA q2138) (lkA q2140) (lkA qs55) rfl (lkA q82) mp_X3_digits (Nat.le_of_ble_eq_true rfl) (Nat.le_of_ble_eq_true rfl) (Nat.le_of_ble_eq_true rfl) (kr_r (fun v9 h9 p9 => ?_)) kx_r
    obtain ⟨rfl, S2, rfl, hF2, hat2, h52, h62, hv2⟩ := p9
    have hM2 := MT_F hM0 hF2
    have h5c := h52.trans h5c
    refine r_if_eq 318 dX3_isOrder_311 rfl (fun c2 => ?_) (fun c2 => ?_)
    · refine r_iconst (v := 0) dX3_isOrder_318 rfl ?_
      exact r_ireturn dX3_isOrder_319 rfl (by first | rfl | exact bi_nar) (io_n (by rw [hb, pb_n (op_n c2)]) hF2 hat2)
    · obtain ⟨x2, hx2⟩ := opt_s c2
      rw [pb_s hx2] at hb
      try dsimp only at hb
      have t0 := hv2 x2 hx2
      have hq2 := (pN_le (m := 2) hq1).2
      refine r_iconst (v := 1) dX3_isOrder_314 rfl ?_
      refine r_goto 319 dX3_isOrder_315 rfl ?_
      exact r_ireturn dX3_isOrder_319 rfl (by first | rfl | exact bi_nar) (io_s hb hF2 hat2 h5c ⟨fun _ => t0, fun h => absurd h (show ¬ (4 = 0 ∨ 4 = 1 ∨ 4 = 3) by decide), fun h => absurd h (show ¬ (4 = 1 ∨ 4 = 3) by decide)⟩)

set_option maxHeartbeats 4000000 in
set_option maxRecDepth 100000 in
theorem io_5 {G : GG} {A : Nat → Nat} {S : Nat → Nat → Int32} {h : HP} (hi : inj 8 mdom A) (hT : KT G) {ka : Nat → Nat} (hKC : KC G ka) {T : List Int32} {p : Nat} (hM : MT S T) (hat : S 7 4 = nI p) (hp : p ≤ T.length) {S0 : Nat → Nat → Int32} (hF : mF S0 S) (hM0 : MT S0 T) (h5 : S 7 5 = (kch 5).getD 0 0) (hfk : fK (hereT T p) = some 5) {b : Nat × Option Ord1} (hb : b = pO T p) : V G 6 M_X3_isOrder 320 [(0, .ref (A 7))] [] (ov (mdH A S) h) 0 (ioQ A S0 h b) := by
  first | refine r_aload_n dX3_isOrder_320 rfl ?_ | refine r_aload_nq dX3_isOrder_320 rfl ?_ | refine r_aload_nN dX3_isOrder_320 rfl ?_
  refine r_ldcS dX3_isOrder_321 (show Str G "BrushSellersModel" 194 "soles " (ka 5) from hKC.1 31 (Nat.le_of_ble_eq_true rfl)) ?_
  refine r_invV dX3_isOrder_323 (sp_wdX hi hT hKC (k := 5) (by decide) hM hat hp hF) rfl mo_X3_word (Or.inl (m_o hi)) rfl (lkA q2132) (lkA q2134) (lkA qs54) rfl (lkA q82) mp_X3_word (Nat.le_of_ble_eq_true rfl) (Nat.le_of_ble_eq_true rfl) (Nat.le_of_ble_eq_true rfl) (kr_r (fun v9 h9 p9 => ?_)) kx_r
  obtain ⟨rfl, S1, rfl, hF1, hat1, h51, h61⟩ := p9
  have hM1 := MT_F hM0 hF1
  have h5c := h51.trans h5
  have hq1 : (pX T (kch 5) (kch 5).length 0 p).1 ≤ T.length := (pX_le (kch_as (by decide)) _ 0 p (by omega) hp).2
  refine r_if_eq 342 dX3_isOrder_326 rfl (fun c1 => ?_) (fun c1 => ?_)
  · refine r_iconst (v := 0) dX3_isOrder_342 rfl ?_
    exact r_ireturn dX3_isOrder_343 rfl (by first | rfl | exact bi_nar) (io_n (by rw [hb, pO_f hfk (bi_0.mp c1)]) hF1 hat1)
  · first | refine r_aload_n dX3_isOrder_329 rfl ?_ | refine r_aload_nq dX3_isOrder_329 rfl ?_ | refine r_aload_nN dX3_isOrder_329 rfl ?_
    refine r_iconst (v := 0) dX3_isOrder_330 rfl ?_
    refine r_iconst (v := 1) dX3_isOrder_331 rfl ?_
    rw [pO_t hfk (bi_n0.mp c1), pA_5] at hb
    refine r_invV dX3_isOrder_332 (sp_dgX hi hT hKC (x := 1) (m := 1) (y := 0) (k := 0) rfl (by decide) (by decide) rfl (by decide) hM1 hat1 hq1 hF1) rfl mo_X3_digits (Or.inl (m_o hi)) rfl (lkA q2138) (lkA q2140) (lkA qs55) rfl (lkA q82) mp_X3_digits (Nat.le_of_ble_eq_true rfl) (Nat.le_of_ble_eq_true rfl) (Nat.le_of_ble_eq_true rfl) (kr_r (fun v9 h9 p9 => ?_)) kx_r
    obtain ⟨rfl, S2, rfl, hF2, hat2, h52, h62, hv2⟩ := p9
    have hM2 := MT_F hM0 hF2
    have h5c := h52.trans h5c
    refine r_if_eq 342 dX3_isOrder_335 rfl (fun c2 => ?_) (fun c2 => ?_)
    · refine r_iconst (v := 0) dX3_isOrder_342 rfl ?_
      exact r_ireturn dX3_isOrder_343 rfl (by first | rfl | exact bi_nar) (io_n (by rw [hb, pb_n (op_n c2)]) hF2 hat2)
    · obtain ⟨x2, hx2⟩ := opt_s c2
      rw [pb_s hx2] at hb
      try dsimp only at hb
      have t0 := hv2 x2 hx2
      have hq2 := (pN_le (m := 1) hq1).2
      refine r_iconst (v := 1) dX3_isOrder_338 rfl ?_
      refine r_goto 343 dX3_isOrder_339 rfl ?_
      exact r_ireturn dX3_isOrder_343 rfl (by first | rfl | exact bi_nar) (io_s hb hF2 hat2 h5c ⟨fun _ => t0, fun h => absurd h (show ¬ (5 = 0 ∨ 5 = 1 ∨ 5 = 3) by decide), fun h => absurd h (show ¬ (5 = 1 ∨ 5 = 3) by decide)⟩)

set_option maxHeartbeats 4000000 in
set_option maxRecDepth 100000 in
theorem io_6 {G : GG} {A : Nat → Nat} {S : Nat → Nat → Int32} {h : HP} (hi : inj 8 mdom A) (hT : KT G) {ka : Nat → Nat} (hKC : KC G ka) {T : List Int32} {p : Nat} (hM : MT S T) (hat : S 7 4 = nI p) (hp : p ≤ T.length) {S0 : Nat → Nat → Int32} (hF : mF S0 S) (hM0 : MT S0 T) (h5 : S 7 5 = (kch 6).getD 0 0) (hfk : fK (hereT T p) = some 6) {b : Nat × Option Ord1} (hb : b = pO T p) : V G 6 M_X3_isOrder 344 [(0, .ref (A 7))] [] (ov (mdH A S) h) 0 (ioQ A S0 h b) := by
  first | refine r_aload_n dX3_isOrder_344 rfl ?_ | refine r_aload_nq dX3_isOrder_344 rfl ?_ | refine r_aload_nN dX3_isOrder_344 rfl ?_
  refine r_ldcS dX3_isOrder_345 (show Str G "BrushSellersModel" 196 "day" (ka 6) from hKC.1 32 (Nat.le_of_ble_eq_true rfl)) ?_
  refine r_invV dX3_isOrder_347 (sp_wdX hi hT hKC (k := 6) (by decide) hM hat hp hF) rfl mo_X3_word (Or.inl (m_o hi)) rfl (lkA q2132) (lkA q2134) (lkA qs54) rfl (lkA q82) mp_X3_word (Nat.le_of_ble_eq_true rfl) (Nat.le_of_ble_eq_true rfl) (Nat.le_of_ble_eq_true rfl) (kr_r (fun v9 h9 p9 => ?_)) kx_r
  obtain ⟨rfl, S1, rfl, hF1, hat1, h51, h61⟩ := p9
  have hM1 := MT_F hM0 hF1
  have h5c := h51.trans h5
  have hq1 : (pX T (kch 6) (kch 6).length 0 p).1 ≤ T.length := (pX_le (kch_as (by decide)) _ 0 p (by omega) hp).2
  exact r_ireturn dX3_isOrder_350 rfl (by first | rfl | exact bi_nar) (by
    cases hw : (pX T (kch 6) (kch 6).length 0 p).2 with
    | false => exact io_n (by rw [hb, pO_f hfk hw]) hF1 hat1
    | true => exact io_s (by rw [hb, pO_t hfk hw, pA_6]) hF1 hat1 h5c ⟨fun h => absurd rfl h, fun h => absurd h (show ¬ (6 = 0 ∨ 6 = 1 ∨ 6 = 3) by decide), fun h => absurd h (show ¬ (6 = 1 ∨ 6 = 3) by decide)⟩)

set_option maxHeartbeats 4000000 in
set_option maxRecDepth 100000 in
theorem sp_X3_isOrder {G : GG} {A : Nat → Nat} {S : Nat → Nat → Int32} {h : HP} (hi : inj 8 mdom A) (hT : KT G) {ka : Nat → Nat} (hKC : KC G ka) {T : List Int32} {p : Nat} (hM : MT S T) (hat : S 7 4 = nI p) (hp : p ≤ T.length) {S0 : Nat → Nat → Int32} (hF : mF S0 S) (hM0 : MT S0 T) : Ct G 6 0 M_X3_isOrder [.ref (A 7)] (ov (mdH A S) h) (ioQ A S0 h (pO T p)) := by
  refine ct_intro my_X3_isOrder (Nat.le_of_ble_eq_true rfl) ?_
  have hT60 := hM.2.1
  first | refine r_aload_n dX3_isOrder_0 rfl ?_ | refine r_aload_nq dX3_isOrder_0 rfl ?_ | refine r_aload_nN dX3_isOrder_0 rfl ?_
  refine r_getfield 3 10 dX3_isOrder_1 rfl (Nat.le_of_ble_eq_true rfl) (lkA q1900) (Or.inl rfl) (Or.inl (m_o hi)) (congrArg (fun z => some (Value.int z)) hat) ?_
  first | refine r_aload_n dX3_isOrder_4 rfl ?_ | refine r_aload_nq dX3_isOrder_4 rfl ?_ | refine r_aload_nN dX3_isOrder_4 rfl ?_
  refine r_getfield 3 9 dX3_isOrder_5 rfl (Nat.le_of_ble_eq_true rfl) (lkA q1899) (Or.inl rfl) (Or.inl (m_o hi)) (congrArg (fun z => some (Value.int z)) hM.1) ?_
  refine r_icmp_ne 13 dX3_isOrder_8 rfl (fun c8 => ?_) (fun c8 => ?_)
  · have hpl : p < T.length := by
      by_cases e : p = T.length
      · exact absurd (congrArg nI e) c8
      · omega
    first | refine r_aload_n dX3_isOrder_13 rfl ?_ | refine r_aload_nq dX3_isOrder_13 rfl ?_ | refine r_aload_nN dX3_isOrder_13 rfl ?_
    first | refine r_aload_n dX3_isOrder_14 rfl ?_ | refine r_aload_nq dX3_isOrder_14 rfl ?_ | refine r_aload_nN dX3_isOrder_14 rfl ?_
    refine r_getfield 3 8 dX3_isOrder_15 rfl (Nat.le_of_ble_eq_true rfl) (lkA q1898) (Or.inl rfl) (Or.inl (m_o hi)) (by rfl) ?_
    first | refine r_aload_n dX3_isOrder_18 rfl ?_ | refine r_aload_nq dX3_isOrder_18 rfl ?_ | refine r_aload_nN dX3_isOrder_18 rfl ?_
    refine r_getfield 3 10 dX3_isOrder_19 rfl (Nat.le_of_ble_eq_true rfl) (lkA q1900) (Or.inl rfl) (Or.inl (m_o hi)) (congrArg (fun z => some (Value.int z)) hat) ?_
    refine r_iaload (p) dX3_isOrder_22 (by first | exact Or.inl (m_a0 hi) | exact Or.inl (m_a1 hi) | exact Or.inl (m_a2 hi) | exact Or.inl (m_a3 hi) | exact Or.inl (m_a4 hi) | exact Or.inl (m_a5 hi) | exact Or.inl (m_a6 hi)) (nIn (by omega)) (by omega) (MT_h hM hpl) ?_
    refine r_put 3 11 dX3_isOrder_23 rfl (Nat.le_of_ble_eq_true rfl) (lkA q1901) (Or.inl rfl) rfl (m_o hi) (by dsimp only [List.set]) (Nat.le_of_ble_eq_true rfl) rfl rfl (m_s5 hi) ?_
    have hM5 : MT (ss S 5 (hereT T p)) T := MT_4 hM (by decide)
    have hF5 : mF S0 (ss S 5 (hereT T p)) := mF_5 hF
    have hat5 : ss S 5 (hereT T p) 7 4 = nI p := (ss_o (by decide)).trans hat
    have hc5 : ss S 5 (hereT T p) 7 5 = hereT T p := ss_at
    generalize hc : hereT T p = c at hM5 hF5 hat5 hc5 ⊢
    first | refine r_aload_n dX3_isOrder_26 rfl ?_ | refine r_aload_nq dX3_isOrder_26 rfl ?_ | refine r_aload_nN dX3_isOrder_26 rfl ?_
    refine r_getfield 3 11 dX3_isOrder_27 rfl (Nat.le_of_ble_eq_true rfl) (lkA q1901) (Or.inl rfl) (Or.inl (m_o hi)) (congrArg (fun z => some (Value.int z)) hc5) ?_
    rcases (show c.toInt < 98 ∨ 116 < c.toInt ∨ c.toInt = 98 ∨ c.toInt = 99 ∨ c.toInt = 100 ∨ c.toInt = 101 ∨ c.toInt = 102 ∨ c.toInt = 103 ∨ c.toInt = 104 ∨ c.toInt = 105 ∨ c.toInt = 106 ∨ c.toInt = 107 ∨ c.toInt = 108 ∨ c.toInt = 109 ∨ c.toInt = 110 ∨ c.toInt = 111 ∨ c.toInt = 112 ∨ c.toInt = 113 ∨ c.toInt = 114 ∨ c.toInt = 115 ∨ c.toInt = 116 by omega) with hsw | hsw | hsw | hsw | hsw | hsw | hsw | hsw | hsw | hsw | hsw | hsw | hsw | hsw | hsw | hsw | hsw | hsw | hsw | hsw | hsw
    · refine r_tableOut 351 dX3_isOrder_30 (Or.inl hsw) rfl ?_
      refine r_iconst (v := 0) dX3_isOrder_351 rfl ?_
      exact r_ireturn dX3_isOrder_352 rfl (by first | rfl | exact bi_nar) (io_n (pO_nf (by rw [hc]; exact fK_out (Or.inl hsw))) hF5 hat5)
    · refine r_tableOut 351 dX3_isOrder_30 (Or.inr hsw) rfl ?_
      refine r_iconst (v := 0) dX3_isOrder_351 rfl ?_
      exact r_ireturn dX3_isOrder_352 rfl (by first | rfl | exact bi_nar) (io_n (pO_nf (by rw [hc]; exact fK_out (Or.inr hsw))) hF5 hat5)
    · obtain rfl : c = 98 := i32_eq.mpr hsw
      refine r_tableIn (off := 266) 296 dX3_isOrder_30 (by decide) (by decide) rfl rfl ?_
      refine V_loc (L' := [(0, .ref (A 7))]) ⟨rfl, trivial⟩ ?_
      exact io_4 hi hT hKC hM5 hat5 hp hF5 hM0 hc5 (by rw [hc]; rfl) rfl
    · obtain rfl : c = 99 := i32_eq.mpr hsw
      refine r_tableIn (off := 321) 351 dX3_isOrder_30 (by decide) (by decide) rfl rfl ?_
      refine r_iconst (v := 0) dX3_isOrder_351 rfl ?_
      exact r_ireturn dX3_isOrder_352 rfl (by first | rfl | exact bi_nar) (io_n (pO_nf (by rw [hc]; rfl)) hF5 hat5)
    · obtain rfl : c = 100 := i32_eq.mpr hsw
      refine r_tableIn (off := 314) 344 dX3_isOrder_30 (by decide) (by decide) rfl rfl ?_
      refine V_loc (L' := [(0, .ref (A 7))]) ⟨rfl, trivial⟩ ?_
      exact io_6 hi hT hKC hM5 hat5 hp hF5 hM0 hc5 (by rw [hc]; rfl) rfl
    · obtain rfl : c = 101 := i32_eq.mpr hsw
      refine r_tableIn (off := 321) 351 dX3_isOrder_30 (by decide) (by decide) rfl rfl ?_
      refine r_iconst (v := 0) dX3_isOrder_351 rfl ?_
      exact r_ireturn dX3_isOrder_352 rfl (by first | rfl | exact bi_nar) (io_n (pO_nf (by rw [hc]; rfl)) hF5 hat5)
    · obtain rfl : c = 102 := i32_eq.mpr hsw
      refine r_tableIn (off := 321) 351 dX3_isOrder_30 (by decide) (by decide) rfl rfl ?_
      refine r_iconst (v := 0) dX3_isOrder_351 rfl ?_
      exact r_ireturn dX3_isOrder_352 rfl (by first | rfl | exact bi_nar) (io_n (pO_nf (by rw [hc]; rfl)) hF5 hat5)
    · obtain rfl : c = 103 := i32_eq.mpr hsw
      refine r_tableIn (off := 90) 120 dX3_isOrder_30 (by decide) (by decide) rfl rfl ?_
      refine V_loc (L' := [(0, .ref (A 7))]) ⟨rfl, trivial⟩ ?_
      exact io_0 hi hT hKC hM5 hat5 hp hF5 hM0 hc5 (by rw [hc]; rfl) rfl
    · obtain rfl : c = 104 := i32_eq.mpr hsw
      refine r_tableIn (off := 321) 351 dX3_isOrder_30 (by decide) (by decide) rfl rfl ?_
      refine r_iconst (v := 0) dX3_isOrder_351 rfl ?_
      exact r_ireturn dX3_isOrder_352 rfl (by first | rfl | exact bi_nar) (io_n (pO_nf (by rw [hc]; rfl)) hF5 hat5)
    · obtain rfl : c = 105 := i32_eq.mpr hsw
      refine r_tableIn (off := 321) 351 dX3_isOrder_30 (by decide) (by decide) rfl rfl ?_
      refine r_iconst (v := 0) dX3_isOrder_351 rfl ?_
      exact r_ireturn dX3_isOrder_352 rfl (by first | rfl | exact bi_nar) (io_n (pO_nf (by rw [hc]; rfl)) hF5 hat5)
    · obtain rfl : c = 106 := i32_eq.mpr hsw
      refine r_tableIn (off := 321) 351 dX3_isOrder_30 (by decide) (by decide) rfl rfl ?_
      refine r_iconst (v := 0) dX3_isOrder_351 rfl ?_
      exact r_ireturn dX3_isOrder_352 rfl (by first | rfl | exact bi_nar) (io_n (pO_nf (by rw [hc]; rfl)) hF5 hat5)
    · obtain rfl : c = 107 := i32_eq.mpr hsw
      refine r_tableIn (off := 321) 351 dX3_isOrder_30 (by decide) (by decide) rfl rfl ?_
      refine r_iconst (v := 0) dX3_isOrder_351 rfl ?_
      exact r_ireturn dX3_isOrder_352 rfl (by first | rfl | exact bi_nar) (io_n (pO_nf (by rw [hc]; rfl)) hF5 hat5)
    · obtain rfl : c = 108 := i32_eq.mpr hsw
      refine r_tableIn (off := 321) 351 dX3_isOrder_30 (by decide) (by decide) rfl rfl ?_
      refine r_iconst (v := 0) dX3_isOrder_351 rfl ?_
      exact r_ireturn dX3_isOrder_352 rfl (by first | rfl | exact bi_nar) (io_n (pO_nf (by rw [hc]; rfl)) hF5 hat5)
    · obtain rfl : c = 109 := i32_eq.mpr hsw
      refine r_tableIn (off := 321) 351 dX3_isOrder_30 (by decide) (by decide) rfl rfl ?_
      refine r_iconst (v := 0) dX3_isOrder_351 rfl ?_
      exact r_ireturn dX3_isOrder_352 rfl (by first | rfl | exact bi_nar) (io_n (pO_nf (by rw [hc]; rfl)) hF5 hat5)
    · obtain rfl : c = 110 := i32_eq.mpr hsw
      refine r_tableIn (off := 321) 351 dX3_isOrder_30 (by decide) (by decide) rfl rfl ?_
      refine r_iconst (v := 0) dX3_isOrder_351 rfl ?_
      exact r_ireturn dX3_isOrder_352 rfl (by first | rfl | exact bi_nar) (io_n (pO_nf (by rw [hc]; rfl)) hF5 hat5)
    · obtain rfl : c = 111 := i32_eq.mpr hsw
      refine r_tableIn (off := 321) 351 dX3_isOrder_30 (by decide) (by decide) rfl rfl ?_
      refine r_iconst (v := 0) dX3_isOrder_351 rfl ?_
      exact r_ireturn dX3_isOrder_352 rfl (by first | rfl | exact bi_nar) (io_n (pO_nf (by rw [hc]; rfl)) hF5 hat5)
    · obtain rfl : c = 112 := i32_eq.mpr hsw
      refine r_tableIn (off := 192) 222 dX3_isOrder_30 (by decide) (by decide) rfl rfl ?_
      refine V_loc (L' := [(0, .ref (A 7))]) ⟨rfl, trivial⟩ ?_
      exact io_2 hi hT hKC hM5 hat5 hp hF5 hM0 hc5 (by rw [hc]; rfl) rfl
    · obtain rfl : c = 113 := i32_eq.mpr hsw
      refine r_tableIn (off := 321) 351 dX3_isOrder_30 (by decide) (by decide) rfl rfl ?_
      refine r_iconst (v := 0) dX3_isOrder_351 rfl ?_
      exact r_ireturn dX3_isOrder_352 rfl (by first | rfl | exact bi_nar) (io_n (pO_nf (by rw [hc]; rfl)) hF5 hat5)
    · obtain rfl : c = 114 := i32_eq.mpr hsw
      refine r_tableIn (off := 132) 162 dX3_isOrder_30 (by decide) (by decide) rfl rfl ?_
      refine V_loc (L' := [(0, .ref (A 7))]) ⟨rfl, trivial⟩ ?_
      exact io_1 hi hT hKC hM5 hat5 hp hF5 hM0 hc5 (by rw [hc]; rfl) rfl
    · obtain rfl : c = 115 := i32_eq.mpr hsw
      refine r_tableIn (off := 290) 320 dX3_isOrder_30 (by decide) (by decide) rfl rfl ?_
      refine V_loc (L' := [(0, .ref (A 7))]) ⟨rfl, trivial⟩ ?_
      exact io_5 hi hT hKC hM5 hat5 hp hF5 hM0 hc5 (by rw [hc]; rfl) rfl
    · obtain rfl : c = 116 := i32_eq.mpr hsw
      refine r_tableIn (off := 216) 246 dX3_isOrder_30 (by decide) (by decide) rfl rfl ?_
      refine V_loc (L' := [(0, .ref (A 7))]) ⟨rfl, trivial⟩ ?_
      exact io_3 hi hT hKC hM5 hat5 hp hF5 hM0 hc5 (by rw [hc]; rfl) rfl
  · refine r_iconst (v := 0) dX3_isOrder_11 rfl ?_
    exact r_ireturn dX3_isOrder_12 rfl (by first | rfl | exact bi_nar) (io_n (pO_nf (by rw [here_out (by have := (nJ_eq (show p < 1000 by omega) (show T.length < 1000 by omega)).mp c8; omega)]; rfl)) hF hat)

set_option maxHeartbeats 4000000 in
set_option maxRecDepth 100000 in
theorem ca_0 {G : GG} {A : Nat → Nat} {S : Nat → Nat → Int32} {h : HP} (hi : inj 8 mdom A) (hT : KT G) {ka : Nat → Nat} (hKC : KC G ka) {T : List Int32} {a b c : Int32} {D : Int} (hI : Inv D (S 0)) (h5 : S 7 5 = (kch 0).getD 0 0) (ht : tdQ (0, a, b, c) S) : Ct G 5 0 M_X3_carries [.ref (A 7)] (ov (mdH A S) h) (eQ (some (.int (mres S (dO (S 0) (0, a, b, c))).1)) (ov (mdH A (mres S (dO (S 0) (0, a, b, c))).2) h)) := by
  refine ct_intro my_X3_carries (Nat.le_of_ble_eq_true rfl) ?_
  first | refine r_aload_n dX3_carries_0 rfl ?_ | refine r_aload_nq dX3_carries_0 rfl ?_ | refine r_aload_nN dX3_carries_0 rfl ?_
  refine r_getfield 3 11 dX3_carries_1 rfl (Nat.le_of_ble_eq_true rfl) (lkA q1901) (Or.inl rfl) (Or.inl (m_o hi)) (congrArg (fun z => some (Value.int z)) h5) ?_
  refine r_tableIn (off := 92) 96 dX3_carries_4 (by decide) (by decide) rfl rfl ?_
  first | refine r_aload_n dX3_carries_96 rfl ?_ | refine r_aload_nq dX3_carries_96 rfl ?_ | refine r_aload_nN dX3_carries_96 rfl ?_
  first | refine r_aload_n dX3_carries_97 rfl ?_ | refine r_aload_nq dX3_carries_97 rfl ?_ | refine r_aload_nN dX3_carries_97 rfl ?_
  refine r_getfield 3 12 dX3_carries_98 rfl (Nat.le_of_ble_eq_true rfl) (lkA q1902) (Or.inl rfl) (Or.inl (m_o hi)) (by rfl) ?_
  refine r_iconst (v := 0) dX3_carries_101 rfl ?_
  refine r_iaload (0) dX3_carries_102 (by first | exact Or.inl (m_a0 hi) | exact Or.inl (m_a1 hi) | exact Or.inl (m_a2 hi) | exact Or.inl (m_a3 hi) | exact Or.inl (m_a4 hi) | exact Or.inl (m_a5 hi) | exact Or.inl (m_a6 hi)) rfl (Nat.le_of_ble_eq_true rfl) (show S 6 0 = _ from ht.1 (show ¬ 0 = 6 by decide)) ?_
  first | refine r_aload_n dX3_carries_103 rfl ?_ | refine r_aload_nq dX3_carries_103 rfl ?_ | refine r_aload_nN dX3_carries_103 rfl ?_
  refine r_getfield 3 12 dX3_carries_104 rfl (Nat.le_of_ble_eq_true rfl) (lkA q1902) (Or.inl rfl) (Or.inl (m_o hi)) (by rfl) ?_
  refine r_iconst (v := 1) dX3_carries_107 rfl ?_
  refine r_iaload (1) dX3_carries_108 (by first | exact Or.inl (m_a0 hi) | exact Or.inl (m_a1 hi) | exact Or.inl (m_a2 hi) | exact Or.inl (m_a3 hi) | exact Or.inl (m_a4 hi) | exact Or.inl (m_a5 hi) | exact Or.inl (m_a6 hi)) rfl (Nat.le_of_ble_eq_true rfl) (show S 6 1 = _ from ht.2.1 (show 0 = 0 ∨ 0 = 1 ∨ 0 = 3 by decide)) ?_
  refine r_invV dX3_carries_109 (sp_X3_goes hi hI) rfl mo_X3_goes (Or.inl (m_o hi)) rfl (lkA q2035) (lkA q2037) (lkA qs43) rfl (lkA q82) mp_X3_goes (Nat.le_of_ble_eq_true rfl) (Nat.le_of_ble_eq_true rfl) (Nat.le_of_ble_eq_true rfl) (kr_e ?_) kx_e
  exact r_ireturn dX3_carries_112 rfl (by first | rfl | exact bi_nar) ⟨rfl, rfl⟩

set_option maxHeartbeats 4000000 in
set_option maxRecDepth 100000 in
theorem ca_1 {G : GG} {A : Nat → Nat} {S : Nat → Nat → Int32} {h : HP} (hi : inj 8 mdom A) (hT : KT G) {ka : Nat → Nat} (hKC : KC G ka) {T : List Int32} {a b c : Int32} {D : Int} (hI : Inv D (S 0)) (h5 : S 7 5 = (kch 1).getD 0 0) (ht : tdQ (1, a, b, c) S) : Ct G 5 0 M_X3_carries [.ref (A 7)] (ov (mdH A S) h) (eQ (some (.int (mres S (dO (S 0) (1, a, b, c))).1)) (ov (mdH A (mres S (dO (S 0) (1, a, b, c))).2) h)) := by
  refine ct_intro my_X3_carries (Nat.le_of_ble_eq_true rfl) ?_
  first | refine r_aload_n dX3_carries_0 rfl ?_ | refine r_aload_nq dX3_carries_0 rfl ?_ | refine r_aload_nN dX3_carries_0 rfl ?_
  refine r_getfield 3 11 dX3_carries_1 rfl (Nat.le_of_ble_eq_true rfl) (lkA q1901) (Or.inl rfl) (Or.inl (m_o hi)) (congrArg (fun z => some (Value.int z)) h5) ?_
  refine r_tableIn (off := 109) 113 dX3_carries_4 (by decide) (by decide) rfl rfl ?_
  first | refine r_aload_n dX3_carries_113 rfl ?_ | refine r_aload_nq dX3_carries_113 rfl ?_ | refine r_aload_nN dX3_carries_113 rfl ?_
  first | refine r_aload_n dX3_carries_114 rfl ?_ | refine r_aload_nq dX3_carries_114 rfl ?_ | refine r_aload_nN dX3_carries_114 rfl ?_
  refine r_getfield 3 12 dX3_carries_115 rfl (Nat.le_of_ble_eq_true rfl) (lkA q1902) (Or.inl rfl) (Or.inl (m_o hi)) (by rfl) ?_
  refine r_iconst (v := 0) dX3_carries_118 rfl ?_
  refine r_iaload (0) dX3_carries_119 (by first | exact Or.inl (m_a0 hi) | exact Or.inl (m_a1 hi) | exact Or.inl (m_a2 hi) | exact Or.inl (m_a3 hi) | exact Or.inl (m_a4 hi) | exact Or.inl (m_a5 hi) | exact Or.inl (m_a6 hi)) rfl (Nat.le_of_ble_eq_true rfl) (show S 6 0 = _ from ht.1 (show ¬ 1 = 6 by decide)) ?_
  first | refine r_aload_n dX3_carries_120 rfl ?_ | refine r_aload_nq dX3_carries_120 rfl ?_ | refine r_aload_nN dX3_carries_120 rfl ?_
  refine r_getfield 3 12 dX3_carries_121 rfl (Nat.le_of_ble_eq_true rfl) (lkA q1902) (Or.inl rfl) (Or.inl (m_o hi)) (by rfl) ?_
  refine r_iconst (v := 1) dX3_carries_124 rfl ?_
  refine r_iaload (1) dX3_carries_125 (by first | exact Or.inl (m_a0 hi) | exact Or.inl (m_a1 hi) | exact Or.inl (m_a2 hi) | exact Or.inl (m_a3 hi) | exact Or.inl (m_a4 hi) | exact Or.inl (m_a5 hi) | exact Or.inl (m_a6 hi)) rfl (Nat.le_of_ble_eq_true rfl) (show S 6 1 = _ from ht.2.1 (show 1 = 0 ∨ 1 = 1 ∨ 1 = 3 by decide)) ?_
  first | refine r_aload_n dX3_carries_126 rfl ?_ | refine r_aload_nq dX3_carries_126 rfl ?_ | refine r_aload_nN dX3_carries_126 rfl ?_
  refine r_getfield 3 12 dX3_carries_127 rfl (Nat.le_of_ble_eq_true rfl) (lkA q1902) (Or.inl rfl) (Or.inl (m_o hi)) (by rfl) ?_
  refine r_iconst (v := 2) dX3_carries_130 rfl ?_
  refine r_iaload (2) dX3_carries_131 (by first | exact Or.inl (m_a0 hi) | exact Or.inl (m_a1 hi) | exact Or.inl (m_a2 hi) | exact Or.inl (m_a3 hi) | exact Or.inl (m_a4 hi) | exact Or.inl (m_a5 hi) | exact Or.inl (m_a6 hi)) rfl (Nat.le_of_ble_eq_true rfl) (show S 6 2 = _ from ht.2.2 (show 1 = 1 ∨ 1 = 3 by decide)) ?_
  refine r_invV dX3_carries_132 (sp_X3_rings hi hI) rfl mo_X3_rings (Or.inl (m_o hi)) rfl (lkA q2091) (lkA q2093) (lkA qs49) rfl (lkA q82) mp_X3_rings (Nat.le_of_ble_eq_true rfl) (Nat.le_of_ble_eq_true rfl) (Nat.le_of_ble_eq_true rfl) (kr_e ?_) kx_e
  exact r_ireturn dX3_carries_135 rfl (by first | rfl | exact bi_nar) ⟨rfl, rfl⟩

set_option maxHeartbeats 4000000 in
set_option maxRecDepth 100000 in
theorem ca_2 {G : GG} {A : Nat → Nat} {S : Nat → Nat → Int32} {h : HP} (hi : inj 8 mdom A) (hT : KT G) {ka : Nat → Nat} (hKC : KC G ka) {T : List Int32} {a b c : Int32} {D : Int} (hI : Inv D (S 0)) (h5 : S 7 5 = (kch 2).getD 0 0) (ht : tdQ (2, a, b, c) S) : Ct G 5 0 M_X3_carries [.ref (A 7)] (ov (mdH A S) h) (eQ (some (.int (mres S (dO (S 0) (2, a, b, c))).1)) (ov (mdH A (mres S (dO (S 0) (2, a, b, c))).2) h)) := by
  refine ct_intro my_X3_carries (Nat.le_of_ble_eq_true rfl) ?_
  first | refine r_aload_n dX3_carries_0 rfl ?_ | refine r_aload_nq dX3_carries_0 rfl ?_ | refine r_aload_nN dX3_carries_0 rfl ?_
  refine r_getfield 3 11 dX3_carries_1 rfl (Nat.le_of_ble_eq_true rfl) (lkA q1901) (Or.inl rfl) (Or.inl (m_o hi)) (congrArg (fun z => some (Value.int z)) h5) ?_
  refine r_tableIn (off := 132) 136 dX3_carries_4 (by decide) (by decide) rfl rfl ?_
  first | refine r_aload_n dX3_carries_136 rfl ?_ | refine r_aload_nq dX3_carries_136 rfl ?_ | refine r_aload_nN dX3_carries_136 rfl ?_
  first | refine r_aload_n dX3_carries_137 rfl ?_ | refine r_aload_nq dX3_carries_137 rfl ?_ | refine r_aload_nN dX3_carries_137 rfl ?_
  refine r_getfield 3 12 dX3_carries_138 rfl (Nat.le_of_ble_eq_true rfl) (lkA q1902) (Or.inl rfl) (Or.inl (m_o hi)) (by rfl) ?_
  refine r_iconst (v := 0) dX3_carries_141 rfl ?_
  refine r_iaload (0) dX3_carries_142 (by first | exact Or.inl (m_a0 hi) | exact Or.inl (m_a1 hi) | exact Or.inl (m_a2 hi) | exact Or.inl (m_a3 hi) | exact Or.inl (m_a4 hi) | exact Or.inl (m_a5 hi) | exact Or.inl (m_a6 hi)) rfl (Nat.le_of_ble_eq_true rfl) (show S 6 0 = _ from ht.1 (show ¬ 2 = 6 by decide)) ?_
  refine r_invV dX3_carries_143 (sp_X3_pets hi hI) rfl mo_X3_pets (Or.inl (m_o hi)) rfl (lkA q2056) (lkA q2058) (lkA qs46) rfl (lkA q82) mp_X3_pets (Nat.le_of_ble_eq_true rfl) (Nat.le_of_ble_eq_true rfl) (Nat.le_of_ble_eq_true rfl) (kr_e ?_) kx_e
  exact r_ireturn dX3_carries_146 rfl (by first | rfl | exact bi_nar) ⟨rfl, rfl⟩

set_option maxHeartbeats 4000000 in
set_option maxRecDepth 100000 in
theorem ca_3 {G : GG} {A : Nat → Nat} {S : Nat → Nat → Int32} {h : HP} (hi : inj 8 mdom A) (hT : KT G) {ka : Nat → Nat} (hKC : KC G ka) {T : List Int32} {a b c : Int32} {D : Int} (hI : Inv D (S 0)) (h5 : S 7 5 = (kch 3).getD 0 0) (ht : tdQ (3, a, b, c) S) : Ct G 5 0 M_X3_carries [.ref (A 7)] (ov (mdH A S) h) (eQ (some (.int (mres S (dO (S 0) (3, a, b, c))).1)) (ov (mdH A (mres S (dO (S 0) (3, a, b, c))).2) h)) := by
  refine ct_intro my_X3_carries (Nat.le_of_ble_eq_true rfl) ?_
  first | refine r_aload_n dX3_carries_0 rfl ?_ | refine r_aload_nq dX3_carries_0 rfl ?_ | refine r_aload_nN dX3_carries_0 rfl ?_
  refine r_getfield 3 11 dX3_carries_1 rfl (Nat.le_of_ble_eq_true rfl) (lkA q1901) (Or.inl rfl) (Or.inl (m_o hi)) (congrArg (fun z => some (Value.int z)) h5) ?_
  refine r_tableIn (off := 143) 147 dX3_carries_4 (by decide) (by decide) rfl rfl ?_
  first | refine r_aload_n dX3_carries_147 rfl ?_ | refine r_aload_nq dX3_carries_147 rfl ?_ | refine r_aload_nN dX3_carries_147 rfl ?_
  first | refine r_aload_n dX3_carries_148 rfl ?_ | refine r_aload_nq dX3_carries_148 rfl ?_ | refine r_aload_nN dX3_carries_148 rfl ?_
  refine r_getfield 3 12 dX3_carries_149 rfl (Nat.le_of_ble_eq_true rfl) (lkA q1902) (Or.inl rfl) (Or.inl (m_o hi)) (by rfl) ?_
  refine r_iconst (v := 0) dX3_carries_152 rfl ?_
  refine r_iaload (0) dX3_carries_153 (by first | exact Or.inl (m_a0 hi) | exact Or.inl (m_a1 hi) | exact Or.inl (m_a2 hi) | exact Or.inl (m_a3 hi) | exact Or.inl (m_a4 hi) | exact Or.inl (m_a5 hi) | exact Or.inl (m_a6 hi)) rfl (Nat.le_of_ble_eq_true rfl) (show S 6 0 = _ from ht.1 (show ¬ 3 = 6 by decide)) ?_
  first | refine r_aload_n dX3_carries_154 rfl ?_ | refine r_aload_nq dX3_carries_154 rfl ?_ | refine r_aload_nN dX3_carries_154 rfl ?_
  refine r_getfield 3 12 dX3_carries_155 rfl (Nat.le_of_ble_eq_true rfl) (lkA q1902) (Or.inl rfl) (Or.inl (m_o hi)) (by rfl) ?_
  refine r_iconst (v := 1) dX3_carries_158 rfl ?_
  refine r_iaload (1) dX3_carries_159 (by first | exact Or.inl (m_a0 hi) | exact Or.inl (m_a1 hi) | exact Or.inl (m_a2 hi) | exact Or.inl (m_a3 hi) | exact Or.inl (m_a4 hi) | exact Or.inl (m_a5 hi) | exact Or.inl (m_a6 hi)) rfl (Nat.le_of_ble_eq_true rfl) (show S 6 1 = _ from ht.2.1 (show 3 = 0 ∨ 3 = 1 ∨ 3 = 3 by decide)) ?_
  first | refine r_aload_n dX3_carries_160 rfl ?_ | refine r_aload_nq dX3_carries_160 rfl ?_ | refine r_aload_nN dX3_carries_160 rfl ?_
  refine r_getfield 3 12 dX3_carries_161 rfl (Nat.le_of_ble_eq_true rfl) (lkA q1902) (Or.inl rfl) (Or.inl (m_o hi)) (by rfl) ?_
  refine r_iconst (v := 2) dX3_carries_164 rfl ?_
  refine r_iaload (2) dX3_carries_165 (by first | exact Or.inl (m_a0 hi) | exact Or.inl (m_a1 hi) | exact Or.inl (m_a2 hi) | exact Or.inl (m_a3 hi) | exact Or.inl (m_a4 hi) | exact Or.inl (m_a5 hi) | exact Or.inl (m_a6 hi)) rfl (Nat.le_of_ble_eq_true rfl) (show S 6 2 = _ from ht.2.2 (show 3 = 1 ∨ 3 = 3 by decide)) ?_
  refine r_invV dX3_carries_166 (sp_X3_takes hi hI) rfl mo_X3_takes (Or.inl (m_o hi)) rfl (lkA q1988) (lkA q1990) (lkA qs36) rfl (lkA q82) mp_X3_takes (Nat.le_of_ble_eq_true rfl) (Nat.le_of_ble_eq_true rfl) (Nat.le_of_ble_eq_true rfl) (kr_e ?_) kx_e
  exact r_ireturn dX3_carries_169 rfl (by first | rfl | exact bi_nar) ⟨rfl, rfl⟩

set_option maxHeartbeats 4000000 in
set_option maxRecDepth 100000 in
theorem ca_4 {G : GG} {A : Nat → Nat} {S : Nat → Nat → Int32} {h : HP} (hi : inj 8 mdom A) (hT : KT G) {ka : Nat → Nat} (hKC : KC G ka) {T : List Int32} {a b c : Int32} {D : Int} (hI : Inv D (S 0)) (h5 : S 7 5 = (kch 4).getD 0 0) (ht : tdQ (4, a, b, c) S) : Ct G 5 0 M_X3_carries [.ref (A 7)] (ov (mdH A S) h) (eQ (some (.int (mres S (dO (S 0) (4, a, b, c))).1)) (ov (mdH A (mres S (dO (S 0) (4, a, b, c))).2) h)) := by
  refine ct_intro my_X3_carries (Nat.le_of_ble_eq_true rfl) ?_
  first | refine r_aload_n dX3_carries_0 rfl ?_ | refine r_aload_nq dX3_carries_0 rfl ?_ | refine r_aload_nN dX3_carries_0 rfl ?_
  refine r_getfield 3 11 dX3_carries_1 rfl (Nat.le_of_ble_eq_true rfl) (lkA q1901) (Or.inl rfl) (Or.inl (m_o hi)) (congrArg (fun z => some (Value.int z)) h5) ?_
  refine r_tableIn (off := 166) 170 dX3_carries_4 (by decide) (by decide) rfl rfl ?_
  first | refine r_aload_n dX3_carries_170 rfl ?_ | refine r_aload_nq dX3_carries_170 rfl ?_ | refine r_aload_nN dX3_carries_170 rfl ?_
  first | refine r_aload_n dX3_carries_171 rfl ?_ | refine r_aload_nq dX3_carries_171 rfl ?_ | refine r_aload_nN dX3_carries_171 rfl ?_
  refine r_getfield 3 12 dX3_carries_172 rfl (Nat.le_of_ble_eq_true rfl) (lkA q1902) (Or.inl rfl) (Or.inl (m_o hi)) (by rfl) ?_
  refine r_iconst (v := 0) dX3_carries_175 rfl ?_
  refine r_iaload (0) dX3_carries_176 (by first | exact Or.inl (m_a0 hi) | exact Or.inl (m_a1 hi) | exact Or.inl (m_a2 hi) | exact Or.inl (m_a3 hi) | exact Or.inl (m_a4 hi) | exact Or.inl (m_a5 hi) | exact Or.inl (m_a6 hi)) rfl (Nat.le_of_ble_eq_true rfl) (show S 6 0 = _ from ht.1 (show ¬ 4 = 6 by decide)) ?_
  refine r_invV dX3_carries_177 (sp_X3_takesBack hi hI) rfl mo_X3_takesBack (Or.inl (m_o hi)) rfl (lkA q2103) (lkA q2105) (lkA qs51) rfl (lkA q82) mp_X3_takesBack (Nat.le_of_ble_eq_true rfl) (Nat.le_of_ble_eq_true rfl) (Nat.le_of_ble_eq_true rfl) (kr_e ?_) kx_e
  exact r_ireturn dX3_carries_180 rfl (by first | rfl | exact bi_nar) ⟨rfl, rfl⟩

set_option maxHeartbeats 4000000 in
set_option maxRecDepth 100000 in
theorem ca_5 {G : GG} {A : Nat → Nat} {S : Nat → Nat → Int32} {h : HP} (hi : inj 8 mdom A) (hT : KT G) {ka : Nat → Nat} (hKC : KC G ka) {T : List Int32} {a b c : Int32} {D : Int} (hI : Inv D (S 0)) (h5 : S 7 5 = (kch 5).getD 0 0) (ht : tdQ (5, a, b, c) S) : Ct G 5 0 M_X3_carries [.ref (A 7)] (ov (mdH A S) h) (eQ (some (.int (mres S (dO (S 0) (5, a, b, c))).1)) (ov (mdH A (mres S (dO (S 0) (5, a, b, c))).2) h)) := by
  refine ct_intro my_X3_carries (Nat.le_of_ble_eq_true rfl) ?_
  first | refine r_aload_n dX3_carries_0 rfl ?_ | refine r_aload_nq dX3_carries_0 rfl ?_ | refine r_aload_nN dX3_carries_0 rfl ?_
  refine r_getfield 3 11 dX3_carries_1 rfl (Nat.le_of_ble_eq_true rfl) (lkA q1901) (Or.inl rfl) (Or.inl (m_o hi)) (congrArg (fun z => some (Value.int z)) h5) ?_
  refine r_tableIn (off := 177) 181 dX3_carries_4 (by decide) (by decide) rfl rfl ?_
  first | refine r_aload_n dX3_carries_181 rfl ?_ | refine r_aload_nq dX3_carries_181 rfl ?_ | refine r_aload_nN dX3_carries_181 rfl ?_
  first | refine r_aload_n dX3_carries_182 rfl ?_ | refine r_aload_nq dX3_carries_182 rfl ?_ | refine r_aload_nN dX3_carries_182 rfl ?_
  refine r_getfield 3 12 dX3_carries_183 rfl (Nat.le_of_ble_eq_true rfl) (lkA q1902) (Or.inl rfl) (Or.inl (m_o hi)) (by rfl) ?_
  refine r_iconst (v := 0) dX3_carries_186 rfl ?_
  refine r_iaload (0) dX3_carries_187 (by first | exact Or.inl (m_a0 hi) | exact Or.inl (m_a1 hi) | exact Or.inl (m_a2 hi) | exact Or.inl (m_a3 hi) | exact Or.inl (m_a4 hi) | exact Or.inl (m_a5 hi) | exact Or.inl (m_a6 hi)) rfl (Nat.le_of_ble_eq_true rfl) (show S 6 0 = _ from ht.1 (show ¬ 5 = 6 by decide)) ?_
  refine r_invV dX3_carries_188 (sp_X3_renews hi hI) rfl mo_X3_renews (Or.inl (m_o hi)) rfl (lkA q2048) (lkA q2050) (lkA qs45) rfl (lkA q82) mp_X3_renews (Nat.le_of_ble_eq_true rfl) (Nat.le_of_ble_eq_true rfl) (Nat.le_of_ble_eq_true rfl) (kr_e ?_) kx_e
  exact r_ireturn dX3_carries_191 rfl (by first | rfl | exact bi_nar) ⟨rfl, rfl⟩

set_option maxHeartbeats 4000000 in
set_option maxRecDepth 100000 in
theorem ca_6 {G : GG} {A : Nat → Nat} {S : Nat → Nat → Int32} {h : HP} (hi : inj 8 mdom A) (hT : KT G) {ka : Nat → Nat} (hKC : KC G ka) {T : List Int32} {a b c : Int32} {D : Int} (hI : Inv D (S 0)) (h5 : S 7 5 = (kch 6).getD 0 0) (ht : tdQ (6, a, b, c) S) : Ct G 5 0 M_X3_carries [.ref (A 7)] (ov (mdH A S) h) (eQ (some (.int (mres S (dO (S 0) (6, a, b, c))).1)) (ov (mdH A (mres S (dO (S 0) (6, a, b, c))).2) h)) := by
  refine ct_intro my_X3_carries (Nat.le_of_ble_eq_true rfl) ?_
  first | refine r_aload_n dX3_carries_0 rfl ?_ | refine r_aload_nq dX3_carries_0 rfl ?_ | refine r_aload_nN dX3_carries_0 rfl ?_
  refine r_getfield 3 11 dX3_carries_1 rfl (Nat.le_of_ble_eq_true rfl) (lkA q1901) (Or.inl rfl) (Or.inl (m_o hi)) (congrArg (fun z => some (Value.int z)) h5) ?_
  refine r_tableIn (off := 188) 192 dX3_carries_4 (by decide) (by decide) rfl rfl ?_
  first | refine r_aload_n dX3_carries_192 rfl ?_ | refine r_aload_nq dX3_carries_192 rfl ?_ | refine r_aload_nN dX3_carries_192 rfl ?_
  refine r_invV dX3_carries_193 (sp_X3_passes hi) rfl mo_X3_passes (Or.inl (m_o hi)) rfl (lkA q2115) (lkA q2117) (lkA qs52) rfl (lkA q82) mp_X3_passes (Nat.le_of_ble_eq_true rfl) (Nat.le_of_ble_eq_true rfl) (Nat.le_of_ble_eq_true rfl) (kr_e ?_) kx_e
  exact r_ireturn dX3_carries_196 rfl (by first | rfl | exact bi_nar) ⟨rfl, rfl⟩

theorem sp_X3_carries {G : GG} {A : Nat → Nat} {S : Nat → Nat → Int32} {h : HP} (hi : inj 8 mdom A) (hT : KT G) {ka : Nat → Nat} (hKC : KC G ka) {T : List Int32} {o9 : Ord1} (hk7 : o9.1 < 7) {D : Int} (hI : Inv D (S 0)) (h5 : S 7 5 = (kch o9.1).getD 0 0) (ht : tdQ o9 S) : Ct G 5 0 M_X3_carries [.ref (A 7)] (ov (mdH A S) h) (eQ (some (.int (mres S (dO (S 0) o9)).1)) (ov (mdH A (mres S (dO (S 0) o9)).2) h)) := by
  obtain ⟨k, a, b, c⟩ := o9
  have hk : k = 0 ∨ k = 1 ∨ k = 2 ∨ k = 3 ∨ k = 4 ∨ k = 5 ∨ k = 6 := by
    have : k < 7 := hk7
    omega
  rcases hk with rfl | rfl | rfl | rfl | rfl | rfl | rfl
  · exact ca_0 hi hT hKC (T := T) hI h5 ht
  · exact ca_1 hi hT hKC (T := T) hI h5 ht
  · exact ca_2 hi hT hKC (T := T) hI h5 ht
  · exact ca_3 hi hT hKC (T := T) hI h5 ht
  · exact ca_4 hi hT hKC (T := T) hI h5 ht
  · exact ca_5 hi hT hKC (T := T) hI h5 ht
  · exact ca_6 hi hT hKC (T := T) hI h5 ht
