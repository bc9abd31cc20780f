set_option maxRecDepth 100000
theorem gL_ring {w : Nat → Int32} {s h : Nat} (hs : s < 4) (hh : h < 20) : gListens (gRing0 w) s h = gListens w s h := by
  unfold gListens gSl gTm gMd gRing0
  rw [upd_n (by omega), upd_n (by omega), upd_n (by omega), upd_n (by omega), upd_n (by omega), upd_n (by omega)]
theorem gW_ring {w : Nat → Int32} {s h b : Nat} {p : Int32} (hs : s < 4) (hh : h < 20) (hb : b < 3) : gWants (gRing0 w) s h b p = gWants w s h b p := by
  unfold gWants
  rw [gL_ring hs hh]
  unfold gSl gRing0
  rw [upd_n (by omega), upd_n (by omega), upd_n (by omega), upd_n (by omega)]
theorem calm_n {w : Nat → Int32} {h j : Nat} {m : Int32} (hj : j ≠ 53 + 4 * h) : gCalm w h m j = w j := upd_n hj
theorem ring_3 {w : Nat → Int32} : gRing0 w 3 = w 3 := rfl
set_option maxHeartbeats 4000000 in
set_option maxRecDepth 100000 in
theorem rings_2 {G : GG} {A : Nat → Nat} {S : Nat → Nat → Int32} {h : HP} (hi : inj 8 mdom A) {x y z hv : Int32} {r : OpR} (s k b c3 : Nat) (hx : x.toInt = (s : Int)) (hk0 : hv.toInt = (k : Int)) (hy : y.toInt = (b : Int)) (hs : s < 4) (hk : k < 20) (hb : b < 3) (hc3 : (S 0 3).toInt = (c3 : Int)) (hc40 : c3 < 40) (hr1 : gListens (S 0) s k = false → r = oK 0 (gCalm (gRing0 (S 0)) k (-1))) (hr2 : gListens (S 0) s k = true → gWants (S 0) s k b z = 0 → r = oK 0 (gRing0 (S 0))) (hr3 : gListens (S 0) s k = true → ¬ gWants (S 0) s k b z = 0 → r = oK (gWants (S 0) s k b z) (gSale (gRing0 (S 0)) s k b (gWants (S 0) s k b z) z)) : V G 4 M_X3_rings 119 [(4, .int hv), (0, .ref (A 7)), (1, .int x), (2, .int y), (3, .int z)] [] (ov (mdH A S) h) 0 (eQ (some (.int (mres S r).1)) (ov (mdH A (mres S r).2) h)) := by
  have hxs : nI s = x := by rw [i32_eq, nI_toInt (by omega), hx]
  have hks : nI k = hv := by rw [i32_eq, nI_toInt (by omega), hk0]
  have hbs : nI b = y := by rw [i32_eq, nI_toInt (by omega), hy]
  first | refine r_aload_n dX3_rings_119 rfl ?_ | refine r_aload_nq dX3_rings_119 rfl ?_ | refine r_aload_nN dX3_rings_119 rfl ?_
  refine r_getfield 3 0 dX3_rings_120 rfl (Nat.le_of_ble_eq_true rfl) (lkA q1890) (Or.inl rfl) (Or.inl (m_o hi)) (by rfl) ?_
  refine r_iconst (v := 1) dX3_rings_123 rfl ?_
  refine r_dup2 dX3_rings_124 rfl rfl ?_
  refine r_iaload (1) dX3_rings_125 (by first | exact Or.inl (m_a0 hi) | exact Or.inl (m_a1 hi) | exact Or.inl (m_a2 hi) | exact Or.inl (m_a3 hi) | exact Or.inl (m_a4 hi) | exact Or.inl (m_a5 hi) | exact Or.inl (m_a6 hi)) rfl (Nat.le_of_ble_eq_true rfl) rfl ?_
  refine r_iconst (v := 5) dX3_rings_126 rfl ?_
  refine r_iadd dX3_rings_127 ?_
  refine r_iastore (1) dX3_rings_128 (m_a0 hi) rfl (Nat.le_of_ble_eq_true rfl) ?_
  rw [m_w0 hi]
  first | refine r_aload_n dX3_rings_129 rfl ?_ | refine r_aload_nq dX3_rings_129 rfl ?_ | refine r_aload_nN dX3_rings_129 rfl ?_
  refine r_getfield 3 0 dX3_rings_130 rfl (Nat.le_of_ble_eq_true rfl) (lkA q1890) (Or.inl rfl) (Or.inl (m_o hi)) (by rfl) ?_
  refine r_bipush (v := 12) dX3_rings_133 rfl ?_
  refine r_dup2 dX3_rings_135 rfl rfl ?_
  refine r_iaload (12) dX3_rings_136 (by first | exact Or.inl (m_a0 hi) | exact Or.inl (m_a1 hi) | exact Or.inl (m_a2 hi) | exact Or.inl (m_a3 hi) | exact Or.inl (m_a4 hi) | exact Or.inl (m_a5 hi) | exact Or.inl (m_a6 hi)) rfl (Nat.le_of_ble_eq_true rfl) rfl ?_
  refine r_iconst (v := 1) dX3_rings_137 rfl ?_
  refine r_iadd dX3_rings_138 ?_
  refine r_iastore (12) dX3_rings_139 (m_a0 hi) rfl (Nat.le_of_ble_eq_true rfl) ?_
  rw [m_w0 hi]
  refine V_heap (h' := (ov (mdH A (sa S 0 (gRing0 (S 0)))) h)) (by simp only [sa_sa, sa_s]; rfl) ?_
  first | refine r_aload_n dX3_rings_140 rfl ?_ | refine r_aload_nq dX3_rings_140 rfl ?_ | refine r_aload_nN dX3_rings_140 rfl ?_
  refine r_iload_n dX3_rings_141 rfl ?_
  refine r_iload dX3_rings_142 rfl ?_
  refine r_invV dX3_rings_144 (sp_X3_listens hi s k hx hk0 hs hk) rfl mo_X3_listens (Or.inl (m_o hi)) rfl (lkA q2078) (lkA q2080) (lkA qs48) rfl (lkA q82) mp_X3_listens (Nat.le_of_ble_eq_true rfl) (Nat.le_of_ble_eq_true rfl) (Nat.le_of_ble_eq_true rfl) (kr_e ?_) kx_e
  rw [show (sa S 0 (gRing0 (S 0))) 0 = gRing0 (S 0) from rfl, gL_ring hs hk]
  refine r_if_ne 163 dX3_rings_147 rfl (fun c147 => ?_) (fun c147 => ?_)
  · first | refine r_aload_n dX3_rings_163 rfl ?_ | refine r_aload_nq dX3_rings_163 rfl ?_ | refine r_aload_nN dX3_rings_163 rfl ?_
    refine r_iload_n dX3_rings_164 rfl ?_
    refine r_iload dX3_rings_165 rfl ?_
    refine r_iload_n dX3_rings_167 rfl ?_
    refine r_iload_n dX3_rings_168 rfl ?_
    refine r_invV dX3_rings_169 (sp_X3_wants hi s k b hx hk0 hy hs hk hb) rfl mo_X3_wants (Or.inl (m_o hi)) rfl (lkA q2074) (lkA q2076) (lkA qs47) rfl (lkA q82) mp_X3_wants (Nat.le_of_ble_eq_true rfl) (Nat.le_of_ble_eq_true rfl) (Nat.le_of_ble_eq_true rfl) (kr_e ?_) kx_e
    rw [show (sa S 0 (gRing0 (S 0))) 0 = gRing0 (S 0) from rfl, gW_ring hs hk hb]
    refine r_istore dX3_rings_172 (Nat.le_of_ble_eq_true rfl) ?_
    refine r_iload dX3_rings_174 rfl ?_
    refine r_if_ne 185 dX3_rings_176 rfl (fun c176 => ?_) (fun c176 => ?_)
    · have hr3' := hr3 (bi_n0.mp c147) c176
      generalize gWants (S 0) s k b z = n0 at hr3' ⊢
      rw [show gSale (gRing0 (S 0)) s k b n0 z = gSaleC (gSaleB (gSaleA (upd (gCalm (gRing0 (S 0)) k 1) 3 (S 0 3 + 1)) (133 + 7 * c3) s k b n0 z) (133 + 7 * c3) s k b n0) k b n0 z from (by unfold gSale; rw [ring_3, show tn (S 0 3) = c3 by unfold tn; omega])] at hr3'
      first | refine r_aload_n dX3_rings_185 rfl ?_ | refine r_aload_nq dX3_rings_185 rfl ?_ | refine r_aload_nN dX3_rings_185 rfl ?_
      refine r_iload dX3_rings_186 rfl ?_
      refine r_iconst (v := 1) dX3_rings_188 rfl ?_
      refine r_invV dX3_rings_189 (sp_X3_calms hi k hk0 hk) rfl mo_X3_calms (Or.inl (m_o hi)) rfl (lkA q2095) (lkA q2097) (lkA qs50) rfl (lkA q82) mp_X3_calms (Nat.le_of_ble_eq_true rfl) (Nat.le_of_ble_eq_true rfl) (Nat.le_of_ble_eq_true rfl) (kr_e ?_) kx_e
      refine V_heap (h' := (ov (mdH A (sa S 0 (gCalm (gRing0 (S 0)) k 1))) h)) (by simp only [sa_sa, sa_s]) ?_
      have e3 : gCalm (gRing0 (S 0)) k 1 3 = S 0 3 := calm_n (by omega)
      have hc3' : (gCalm (gRing0 (S 0)) k 1 3).toInt = (c3 : Int) := by rw [e3]; exact hc3
      have hc4 : (sa S 0 (gCalm (gRing0 (S 0)) k 1) 0 3).toInt = (c3 : Int) := hc3'
      refine r_sipush (v := 133) dX3_rings_192 rfl ?_
      refine r_bipush (v := 7) dX3_rings_195 rfl ?_
      first | refine r_aload_n dX3_rings_197 rfl ?_ | refine r_aload_nq dX3_rings_197 rfl ?_ | refine r_aload_nN dX3_rings_197 rfl ?_
      refine r_getfield 3 0 dX3_rings_198 rfl (Nat.le_of_ble_eq_true rfl) (lkA q1890) (Or.inl rfl) (Or.inl (m_o hi)) (by rfl) ?_
      refine r_iconst (v := 3) dX3_rings_201 rfl ?_
      refine r_dup2 dX3_rings_202 rfl rfl ?_
      refine r_iaload (3) dX3_rings_203 (by first | exact Or.inl (m_a0 hi) | exact Or.inl (m_a1 hi) | exact Or.inl (m_a2 hi) | exact Or.inl (m_a3 hi) | exact Or.inl (m_a4 hi) | exact Or.inl (m_a5 hi) | exact Or.inl (m_a6 hi)) rfl (Nat.le_of_ble_eq_true rfl) rfl ?_
      refine r_dup_x2 dX3_rings_204 rfl rfl rfl ?_
      refine r_iconst (v := 1) dX3_rings_205 rfl ?_
      refine r_iadd dX3_rings_206 ?_
      refine r_iastore (3) dX3_rings_207 (m_a0 hi) rfl (Nat.le_of_ble_eq_true rfl) ?_
      rw [m_w0 hi]
      refine r_imul dX3_rings_208 ?_
      refine r_iadd dX3_rings_209 ?_
      refine r_istore dX3_rings_210 (Nat.le_of_ble_eq_true rfl) ?_
      first | refine r_aload_n dX3_rings_212 rfl ?_ | refine r_aload_nq dX3_rings_212 rfl ?_ | refine r_aload_nN dX3_rings_212 rfl ?_
      refine r_getfield 3 0 dX3_rings_213 rfl (Nat.le_of_ble_eq_true rfl) (lkA q1890) (Or.inl rfl) (Or.inl (m_o hi)) (by rfl) ?_
      refine r_iload dX3_rings_216 rfl ?_
      refine r_iload_n dX3_rings_218 rfl ?_
      refine r_iastore ((133 + 7 * c3)) dX3_rings_219 (m_a0 hi) (by (try simp only [tI_add, tI_sub, tI_mul, tI_neg, Int32.reduceToInt]); omega) (by omega) ?_
      rw [m_w0 hi]
      first | refine r_aload_n dX3_rings_220 rfl ?_ | refine r_aload_nq dX3_rings_220 rfl ?_ | refine r_aload_nN dX3_rings_220 rfl ?_
      refine r_getfield 3 0 dX3_rings_221 rfl (Nat.le_of_ble_eq_true rfl) (lkA q1890) (Or.inl rfl) (Or.inl (m_o hi)) (by rfl) ?_
      refine r_iload dX3_rings_224 rfl ?_
      refine r_iconst (v := 1) dX3_rings_226 rfl ?_
      refine r_iadd dX3_rings_227 ?_
      refine r_iload dX3_rings_228 rfl ?_
      refine r_iastore (((133 + 7 * c3) + 1)) dX3_rings_230 (m_a0 hi) (by (try simp only [tI_add, tI_sub, tI_mul, tI_neg, Int32.reduceToInt]); omega) (by omega) ?_
      rw [m_w0 hi]
      first | refine r_aload_n dX3_rings_231 rfl ?_ | refine r_aload_nq dX3_rings_231 rfl ?_ | refine r_aload_nN dX3_rings_231 rfl ?_
      refine r_getfield 3 0 dX3_rings_232 rfl (Nat.le_of_ble_eq_true rfl) (lkA q1890) (Or.inl rfl) (Or.inl (m_o hi)) (by rfl) ?_
      refine r_iload dX3_rings_235 rfl ?_
      refine r_iconst (v := 2) dX3_rings_237 rfl ?_
      refine r_iadd dX3_rings_238 ?_
      refine r_iload_n dX3_rings_239 rfl ?_
      refine r_iastore (((133 + 7 * c3) + 2)) dX3_rings_240 (m_a0 hi) (by (try simp only [tI_add, tI_sub, tI_mul, tI_neg, Int32.reduceToInt]); omega) (by omega) ?_
      rw [m_w0 hi]
      first | refine r_aload_n dX3_rings_241 rfl ?_ | refine r_aload_nq dX3_rings_241 rfl ?_ | refine r_aload_nN dX3_rings_241 rfl ?_
      refine r_getfield 3 0 dX3_rings_242 rfl (Nat.le_of_ble_eq_true rfl) (lkA q1890) (Or.inl rfl) (Or.inl (m_o hi)) (by rfl) ?_
      refine r_iload dX3_rings_245 rfl ?_
      refine r_iconst (v := 3) dX3_rings_247 rfl ?_
      refine r_iadd dX3_rings_248 ?_
      refine r_iload dX3_rings_249 rfl ?_
      refine r_iastore (((133 + 7 * c3) + 3)) dX3_rings_251 (m_a0 hi) (by (try simp only [tI_add, tI_sub, tI_mul, tI_neg, Int32.reduceToInt]); omega) (by omega) ?_
      rw [m_w0 hi]
      first | refine r_aload_n dX3_rings_252 rfl ?_ | refine r_aload_nq dX3_rings_252 rfl ?_ | refine r_aload_nN dX3_rings_252 rfl ?_
      refine r_getfield 3 0 dX3_rings_253 rfl (Nat.le_of_ble_eq_true rfl) (lkA q1890) (Or.inl rfl) (Or.inl (m_o hi)) (by rfl) ?_
      refine r_iload dX3_rings_256 rfl ?_
      refine r_iconst (v := 4) dX3_rings_258 rfl ?_
      refine r_iadd dX3_rings_259 ?_
      refine r_iload_n dX3_rings_260 rfl ?_
      refine r_iastore (((133 + 7 * c3) + 4)) dX3_rings_261 (m_a0 hi) (by (try simp only [tI_add, tI_sub, tI_mul, tI_neg, Int32.reduceToInt]); omega) (by omega) ?_
      rw [m_w0 hi]
      refine V_heap (h' := (ov (mdH A (sa S 0 (gSaleA (upd (gCalm (gRing0 (S 0)) k 1) 3 (S 0 3 + 1)) (133 + 7 * c3) s k b n0 z))) h)) (by simp only [sa_sa, sa_s]; unfold gSaleA; rw [hxs, hks, hbs, e3]) ?_
      first | refine r_aload_n dX3_rings_262 rfl ?_ | refine r_aload_nq dX3_rings_262 rfl ?_ | refine r_aload_nN dX3_rings_262 rfl ?_
      refine r_getfield 3 0 dX3_rings_263 rfl (Nat.le_of_ble_eq_true rfl) (lkA q1890) (Or.inl rfl) (Or.inl (m_o hi)) (by rfl) ?_
      refine r_iload dX3_rings_266 rfl ?_
      refine r_iconst (v := 5) dX3_rings_268 rfl ?_
      refine r_iadd dX3_rings_269 ?_
      first | refine r_aload_n dX3_rings_270 rfl ?_ | refine r_aload_nq dX3_rings_270 rfl ?_ | refine r_aload_nN dX3_rings_270 rfl ?_
      refine r_getfield 3 0 dX3_rings_271 rfl (Nat.le_of_ble_eq_true rfl) (lkA q1890) (Or.inl rfl) (Or.inl (m_o hi)) (by rfl) ?_
      refine r_iconst (v := 0) dX3_rings_274 rfl ?_
      refine r_iaload (0) dX3_rings_275 (by first | exact Or.inl (m_a0 hi) | exact Or.inl (m_a1 hi) | exact Or.inl (m_a2 hi) | exact Or.inl (m_a3 hi) | exact Or.inl (m_a4 hi) | exact Or.inl (m_a5 hi) | exact Or.inl (m_a6 hi)) rfl (Nat.le_of_ble_eq_true rfl) rfl ?_
      refine r_iastore (((133 + 7 * c3) + 5)) dX3_rings_276 (m_a0 hi) (by (try simp only [tI_add, tI_sub, tI_mul, tI_neg, Int32.reduceToInt]); omega) (by omega) ?_
      rw [m_w0 hi]
      first | refine r_aload_n dX3_rings_277 rfl ?_ | refine r_aload_nq dX3_rings_277 rfl ?_ | refine r_aload_nN dX3_rings_277 rfl ?_
      refine r_getfield 3 0 dX3_rings_278 rfl (Nat.le_of_ble_eq_true rfl) (lkA q1890) (Or.inl rfl) (Or.inl (m_o hi)) (by rfl) ?_
      refine r_iload dX3_rings_281 rfl ?_
      refine r_bipush (v := 6) dX3_rings_283 rfl ?_
      refine r_iadd dX3_rings_285 ?_
      refine r_iconst (v := 0) dX3_rings_286 rfl ?_
      refine r_iastore (((133 + 7 * c3) + 6)) dX3_rings_287 (m_a0 hi) (by (try simp only [tI_add, tI_sub, tI_mul, tI_neg, Int32.reduceToInt]); omega) (by omega) ?_
      rw [m_w0 hi]
      first | refine r_aload_n dX3_rings_288 rfl ?_ | refine r_aload_nq dX3_rings_288 rfl ?_ | refine r_aload_nN dX3_rings_288 rfl ?_
      refine r_iload_n dX3_rings_289 rfl ?_
      refine r_iconst (v := 3) dX3_rings_290 rfl ?_
      refine r_iload_n dX3_rings_291 rfl ?_
      refine r_iadd dX3_rings_292 ?_
      refine r_iload dX3_rings_293 rfl ?_
      refine r_ineg dX3_rings_295 ?_
      refine r_invV dX3_rings_296 (sp_X3_adds hi s (3 + b) hx (by simp only [tI_add, Int32.reduceToInt]; omega) (by omega)) rfl mo_X3_adds (Or.inl (m_o hi)) rfl (lkA q2000) (lkA q2002) (lkA qs39) rfl (lkA q82) mp_X3_adds (Nat.le_of_ble_eq_true rfl) (Nat.le_of_ble_eq_true rfl) (Nat.le_of_ble_eq_true rfl) (kr_e ?_) kx_e
      first | refine r_aload_n dX3_rings_299 rfl ?_ | refine r_aload_nq dX3_rings_299 rfl ?_ | refine r_aload_nN dX3_rings_299 rfl ?_
      refine r_iload_n dX3_rings_300 rfl ?_
      refine r_bipush (v := 6) dX3_rings_301 rfl ?_
      refine r_iload dX3_rings_303 rfl ?_
      refine r_invV dX3_rings_305 (sp_X3_adds hi s 6 hx rfl (by omega)) rfl mo_X3_adds (Or.inl (m_o hi)) rfl (lkA q2000) (lkA q2002) (lkA qs39) rfl (lkA q82) mp_X3_adds (Nat.le_of_ble_eq_true rfl) (Nat.le_of_ble_eq_true rfl) (Nat.le_of_ble_eq_true rfl) (kr_e ?_) kx_e
      refine V_heap (h' := (ov (mdH A (sa S 0 (gSaleB (gSaleA (upd (gCalm (gRing0 (S 0)) k 1) 3 (S 0 3 + 1)) (133 + 7 * c3) s k b n0 z) (133 + 7 * c3) s k b n0))) h)) (by simp only [sa_sa, sa_s]; rfl) ?_
      generalize gSaleB (gSaleA (upd (gCalm (gRing0 (S 0)) k 1) 3 (S 0 3 + 1)) (133 + 7 * c3) s k b n0 z) (133 + 7 * c3) s k b n0 = wB at hr3' ⊢
      first | refine r_aload_n dX3_rings_308 rfl ?_ | refine r_aload_nq dX3_rings_308 rfl ?_ | refine r_aload_nN dX3_rings_308 rfl ?_
      refine r_getfield 3 0 dX3_rings_309 rfl (Nat.le_of_ble_eq_true rfl) (lkA q1890) (Or.inl rfl) (Or.inl (m_o hi)) (by rfl) ?_
      refine r_bipush (v := 53) dX3_rings_312 rfl ?_
      refine r_iconst (v := 4) dX3_rings_314 rfl ?_
      refine r_iload dX3_rings_315 rfl ?_
      refine r_imul dX3_rings_317 ?_
      refine r_iadd dX3_rings_318 ?_
      refine r_iconst (v := 2) dX3_rings_319 rfl ?_
      refine r_iadd dX3_rings_320 ?_
      refine r_dup2 dX3_rings_321 rfl rfl ?_
      refine r_iaload (53 + 4 * k + 2) dX3_rings_322 (by first | exact Or.inl (m_a0 hi) | exact Or.inl (m_a1 hi) | exact Or.inl (m_a2 hi) | exact Or.inl (m_a3 hi) | exact Or.inl (m_a4 hi) | exact Or.inl (m_a5 hi) | exact Or.inl (m_a6 hi)) (by (try simp only [tI_add, tI_sub, tI_mul, tI_neg, Int32.reduceToInt]); omega) (by omega) rfl ?_
      refine r_iload dX3_rings_323 rfl ?_
      refine r_iadd dX3_rings_325 ?_
      refine r_iastore (53 + 4 * k + 2) dX3_rings_326 (m_a0 hi) (by (try simp only [tI_add, tI_sub, tI_mul, tI_neg, Int32.reduceToInt]); omega) (by omega) ?_
      rw [m_w0 hi]
      first | refine r_aload_n dX3_rings_327 rfl ?_ | refine r_aload_nq dX3_rings_327 rfl ?_ | refine r_aload_nN dX3_rings_327 rfl ?_
      refine r_getfield 3 0 dX3_rings_328 rfl (Nat.le_of_ble_eq_true rfl) (lkA q1890) (Or.inl rfl) (Or.inl (m_o hi)) (by rfl) ?_
      refine r_bipush (v := 53) dX3_rings_331 rfl ?_
      refine r_iconst (v := 4) dX3_rings_333 rfl ?_
      refine r_iload dX3_rings_334 rfl ?_
      refine r_imul dX3_rings_336 ?_
      refine r_iadd dX3_rings_337 ?_
      refine r_iconst (v := 3) dX3_rings_338 rfl ?_
      refine r_iadd dX3_rings_339 ?_
      refine r_dup2 dX3_rings_340 rfl rfl ?_
      refine r_iaload (53 + 4 * k + 3) dX3_rings_341 (by first | exact Or.inl (m_a0 hi) | exact Or.inl (m_a1 hi) | exact Or.inl (m_a2 hi) | exact Or.inl (m_a3 hi) | exact Or.inl (m_a4 hi) | exact Or.inl (m_a5 hi) | exact Or.inl (m_a6 hi)) (by (try simp only [tI_add, tI_sub, tI_mul, tI_neg, Int32.reduceToInt]); omega) (by omega) rfl ?_
      refine r_iconst (v := 1) dX3_rings_342 rfl ?_
      refine r_iload_n dX3_rings_343 rfl ?_
      refine r_ishl dX3_rings_344 ?_
      refine r_ior dX3_rings_345 ?_
      refine r_iastore (53 + 4 * k + 3) dX3_rings_346 (m_a0 hi) (by (try simp only [tI_add, tI_sub, tI_mul, tI_neg, Int32.reduceToInt]); omega) (by omega) ?_
      rw [m_w0 hi]
      first | refine r_aload_n dX3_rings_347 rfl ?_ | refine r_aload_nq dX3_rings_347 rfl ?_ | refine r_aload_nN dX3_rings_347 rfl ?_
      refine r_getfield 3 0 dX3_rings_348 rfl (Nat.le_of_ble_eq_true rfl) (lkA q1890) (Or.inl rfl) (Or.inl (m_o hi)) (by rfl) ?_
      refine r_bipush (v := 6) dX3_rings_351 rfl ?_
      refine r_dup2 dX3_rings_353 rfl rfl ?_
      refine r_iaload (6) dX3_rings_354 (by first | exact Or.inl (m_a0 hi) | exact Or.inl (m_a1 hi) | exact Or.inl (m_a2 hi) | exact Or.inl (m_a3 hi) | exact Or.inl (m_a4 hi) | exact Or.inl (m_a5 hi) | exact Or.inl (m_a6 hi)) rfl (Nat.le_of_ble_eq_true rfl) rfl ?_
      refine r_iload dX3_rings_355 rfl ?_
      refine r_iadd dX3_rings_357 ?_
      refine r_iastore (6) dX3_rings_358 (m_a0 hi) rfl (Nat.le_of_ble_eq_true rfl) ?_
      rw [m_w0 hi]
      first | refine r_aload_n dX3_rings_359 rfl ?_ | refine r_aload_nq dX3_rings_359 rfl ?_ | refine r_aload_nN dX3_rings_359 rfl ?_
      refine r_getfield 3 0 dX3_rings_360 rfl (Nat.le_of_ble_eq_true rfl) (lkA q1890) (Or.inl rfl) (Or.inl (m_o hi)) (by rfl) ?_
      refine r_iconst (v := 4) dX3_rings_363 rfl ?_
      refine r_dup2 dX3_rings_364 rfl rfl ?_
      refine r_iaload (4) dX3_rings_365 (by first | exact Or.inl (m_a0 hi) | exact Or.inl (m_a1 hi) | exact Or.inl (m_a2 hi) | exact Or.inl (m_a3 hi) | exact Or.inl (m_a4 hi) | exact Or.inl (m_a5 hi) | exact Or.inl (m_a6 hi)) rfl (Nat.le_of_ble_eq_true rfl) rfl ?_
      refine r_iload dX3_rings_366 rfl ?_
      refine r_iload_n dX3_rings_368 rfl ?_
      refine r_imul dX3_rings_369 ?_
      refine r_iadd dX3_rings_370 ?_
      refine r_iastore (4) dX3_rings_371 (m_a0 hi) rfl (Nat.le_of_ble_eq_true rfl) ?_
      rw [m_w0 hi]
      first | refine r_aload_n dX3_rings_372 rfl ?_ | refine r_aload_nq dX3_rings_372 rfl ?_ | refine r_aload_nN dX3_rings_372 rfl ?_
      refine r_getfield 3 0 dX3_rings_373 rfl (Nat.le_of_ble_eq_true rfl) (lkA q1890) (Or.inl rfl) (Or.inl (m_o hi)) (by rfl) ?_
      refine r_bipush (v := 9) dX3_rings_376 rfl ?_
      refine r_dup2 dX3_rings_378 rfl rfl ?_
      refine r_iaload (9) dX3_rings_379 (by first | exact Or.inl (m_a0 hi) | exact Or.inl (m_a1 hi) | exact Or.inl (m_a2 hi) | exact Or.inl (m_a3 hi) | exact Or.inl (m_a4 hi) | exact Or.inl (m_a5 hi) | exact Or.inl (m_a6 hi)) rfl (Nat.le_of_ble_eq_true rfl) rfl ?_
      refine r_iload dX3_rings_380 rfl ?_
      refine r_iload_n dX3_rings_382 rfl ?_
      refine r_imul dX3_rings_383 ?_
      refine r_iadd dX3_rings_384 ?_
      refine r_iastore (9) dX3_rings_385 (m_a0 hi) rfl (Nat.le_of_ble_eq_true rfl) ?_
      rw [m_w0 hi]
      first | refine r_aload_n dX3_rings_386 rfl ?_ | refine r_aload_nq dX3_rings_386 rfl ?_ | refine r_aload_nN dX3_rings_386 rfl ?_
      refine r_iload dX3_rings_387 rfl ?_
      refine r_invV dX3_rings_389 (sp_X3_does hi) rfl mo_X3_does (Or.inl (m_o hi)) rfl (lkA q2004) (lkA q2006) (lkA qs40) rfl (lkA q82) mp_X3_does (Nat.le_of_ble_eq_true rfl) (Nat.le_of_ble_eq_true rfl) (Nat.le_of_ble_eq_true rfl) (kr_e ?_) kx_e
      exact r_ireturn dX3_rings_392 rfl (by first | rfl | exact bi_nar) (res_K hr3' (by simp only [sa_sa, sa_s]; unfold gSaleC; rw [hbs]))
    · first | refine r_aload_n dX3_rings_179 rfl ?_ | refine r_aload_nq dX3_rings_179 rfl ?_ | refine r_aload_nN dX3_rings_179 rfl ?_
      refine r_iconst (v := 0) dX3_rings_180 rfl ?_
      refine r_invV dX3_rings_181 (sp_X3_does hi) rfl mo_X3_does (Or.inl (m_o hi)) rfl (lkA q2004) (lkA q2006) (lkA qs40) rfl (lkA q82) mp_X3_does (Nat.le_of_ble_eq_true rfl) (Nat.le_of_ble_eq_true rfl) (Nat.le_of_ble_eq_true rfl) (kr_e ?_) kx_e
      exact r_ireturn dX3_rings_184 rfl (by first | rfl | exact bi_nar) (res_K (hr2 (bi_n0.mp c147) c176) rfl)
  · first | refine r_aload_n dX3_rings_150 rfl ?_ | refine r_aload_nq dX3_rings_150 rfl ?_ | refine r_aload_nN dX3_rings_150 rfl ?_
    refine r_iload dX3_rings_151 rfl ?_
    refine r_iconst (v := (-1)) dX3_rings_153 rfl ?_
    refine r_invV dX3_rings_154 (sp_X3_calms hi k hk0 hk) rfl mo_X3_calms (Or.inl (m_o hi)) rfl (lkA q2095) (lkA q2097) (lkA qs50) rfl (lkA q82) mp_X3_calms (Nat.le_of_ble_eq_true rfl) (Nat.le_of_ble_eq_true rfl) (Nat.le_of_ble_eq_true rfl) (kr_e ?_) kx_e
    first | refine r_aload_n dX3_rings_157 rfl ?_ | refine r_aload_nq dX3_rings_157 rfl ?_ | refine r_aload_nN dX3_rings_157 rfl ?_
    refine r_iconst (v := 0) dX3_rings_158 rfl ?_
    refine r_invV dX3_rings_159 (sp_X3_does hi) rfl mo_X3_does (Or.inl (m_o hi)) rfl (lkA q2004) (lkA q2006) (lkA qs40) rfl (lkA q82) mp_X3_does (Nat.le_of_ble_eq_true rfl) (Nat.le_of_ble_eq_true rfl) (Nat.le_of_ble_eq_true rfl) (kr_e ?_) kx_e
    exact r_ireturn dX3_rings_162 rfl (by first | rfl | exact bi_nar) (res_K (hr1 (bi_0.mp c147)) (by simp only [sa_sa, sa_s]))

set_option maxHeartbeats 4000000 in
set_option maxRecDepth 100000 in
theorem sp_X3_rings {G : GG} {A : Nat → Nat} {S : Nat → Nat → Int32} {h : HP} (hi : inj 8 mdom A) {D : Int} (hI : Inv D (S 0)) {x y z : Int32} : Ct G 4 0 M_X3_rings [.ref (A 7), .int x, .int y, .int z] (ov (mdH A S) h) (eQ (some (.int (mres S (oRings (S 0) x y z)).1)) (ov (mdH A (mres S (oRings (S 0) x y z)).2) h)) := by
  refine ct_intro my_X3_rings (Nat.le_of_ble_eq_true rfl) ?_
  first | refine r_aload_n dX3_rings_0 rfl ?_ | refine r_aload_nq dX3_rings_0 rfl ?_ | refine r_aload_nN dX3_rings_0 rfl ?_
  refine r_iload_n dX3_rings_1 rfl ?_
  refine r_invV dX3_rings_2 (sp_X3_isSeller hi) rfl mo_X3_isSeller (Or.inl (m_o hi)) rfl (lkA q1992) (lkA q1994) (lkA qs37) rfl (lkA q82) mp_X3_isSeller (Nat.le_of_ble_eq_true rfl) (Nat.le_of_ble_eq_true rfl) (Nat.le_of_ble_eq_true rfl) (kr_e ?_) kx_e
  refine r_if_eq 15 dX3_rings_5 rfl (fun c5 => ?_) (fun c5 => ?_)
  · refine r_bipush (v := (-11)) dX3_rings_15 rfl ?_
    exact r_ireturn dX3_rings_17 rfl (by first | rfl | exact bi_nar) (res_C (by (try simp only [bi_0, Bool.not_eq_false, s10, ss0, ← Int32.not_lt, Classical.not_not] at c5); simp only [oRings, gRingR, isP, ← Int32.not_lt, c5, if_true, if_false, eq_self, Bool.false_eq_true, not_true_eq_false, not_false_eq_true, true_and, and_true, false_and, and_false, decide_true, decide_false, Bool.not_true, Bool.not_false, Bool.true_and, Bool.false_and]; try rfl) rfl)
  · have hS := isS_of hI c5
    refine r_iload_n dX3_rings_8 rfl ?_
    refine r_invS dX3_rings_9 (sp_X3_isBristle ) rfl mo_X3_isBristle (lkA q1977) (lkA q1978) (lkA q82) mp_X3_isBristle (Nat.le_of_ble_eq_true rfl) (Nat.le_of_ble_eq_true rfl) (Nat.le_of_ble_eq_true rfl) (kr_e ?_) kx_e
    refine r_if_ne 18 dX3_rings_12 rfl (fun c12 => ?_) (fun c12 => ?_)
    · have hB := isB_of c12
      refine r_iload_n dX3_rings_18 rfl ?_
      refine r_iconst (v := 1) dX3_rings_19 rfl ?_
      refine r_bipush (v := 20) dX3_rings_20 rfl ?_
      refine r_invS dX3_rings_22 (sp_X3_in ) rfl mo_X3_in (lkA q1947) (lkA q1948) (lkA q82) mp_X3_in (Nat.le_of_ble_eq_true rfl) (Nat.le_of_ble_eq_true rfl) (Nat.le_of_ble_eq_true rfl) (kr_e ?_) kx_e
      refine r_if_ne 31 dX3_rings_25 rfl (fun c25 => ?_) (fun c25 => ?_)
      · first | refine r_aload_n dX3_rings_31 rfl ?_ | refine r_aload_nq dX3_rings_31 rfl ?_ | refine r_aload_nN dX3_rings_31 rfl ?_
        refine r_iload_n dX3_rings_32 rfl ?_
        refine r_iconst (v := 1) dX3_rings_33 rfl ?_
        refine r_invV dX3_rings_34 (sp_X3_of hi (tn x) 1 hS.2.1 rfl (by have := hS.2.2.1; omega)) rfl mo_X3_of (Or.inl (m_o hi)) rfl (lkA q1996) (lkA q1998) (lkA qs38) rfl (lkA q82) mp_X3_of (Nat.le_of_ble_eq_true rfl) (Nat.le_of_ble_eq_true rfl) (Nat.le_of_ble_eq_true rfl) (kr_e ?_) kx_e
        refine r_istore dX3_rings_37 (Nat.le_of_ble_eq_true rfl) ?_
        have hA := at_of hI hS.2.2.2
        first | refine r_aload_n dX3_rings_39 rfl ?_ | refine r_aload_nq dX3_rings_39 rfl ?_ | refine r_aload_nN dX3_rings_39 rfl ?_
        refine r_iload dX3_rings_40 rfl ?_
        refine r_invV dX3_rings_42 (sp_X3_mood hi (tn (gSl (S 0) (tn x) 1)) hA.1 hA.2.1) rfl mo_X3_mood (Or.inl (m_o hi)) rfl (lkA q1965) (lkA q1967) (lkA qs33) rfl (lkA q82) mp_X3_mood (Nat.le_of_ble_eq_true rfl) (Nat.le_of_ble_eq_true rfl) (Nat.le_of_ble_eq_true rfl) (kr_e ?_) kx_e
        refine r_bipush (v := 7) dX3_rings_45 rfl ?_
        refine r_icmp_lt 63 dX3_rings_47 rfl (fun c47 => ?_) (fun c47 => ?_)
        · first | refine r_aload_n dX3_rings_63 rfl ?_ | refine r_aload_nq dX3_rings_63 rfl ?_ | refine r_aload_nN dX3_rings_63 rfl ?_
          refine r_invV dX3_rings_64 (sp_X3_left hi) rfl mo_X3_left (Or.inl (m_o hi)) rfl (lkA q2040) (lkA q2042) (lkA qs44) rfl (lkA q82) mp_X3_left (Nat.le_of_ble_eq_true rfl) (Nat.le_of_ble_eq_true rfl) (Nat.le_of_ble_eq_true rfl) (kr_e ?_) kx_e
          refine r_iconst (v := 5) dX3_rings_67 rfl ?_
          refine r_icmp_ge 81 dX3_rings_68 rfl (fun c68 => ?_) (fun c68 => ?_)
          · first | refine r_aload_n dX3_rings_81 rfl ?_ | refine r_aload_nq dX3_rings_81 rfl ?_ | refine r_aload_nN dX3_rings_81 rfl ?_
            refine r_iload_n dX3_rings_82 rfl ?_
            refine r_iconst (v := 3) dX3_rings_83 rfl ?_
            refine r_iload_n dX3_rings_84 rfl ?_
            refine r_iadd dX3_rings_85 ?_
            refine r_invV dX3_rings_86 (sp_X3_of hi (tn x) (3 + tn y) hS.2.1 (by have := hB.2.1; have := hB.2.2; simp only [tI_add, Int32.reduceToInt]; omega) (by have := hS.2.2.1; have := hB.2.2; omega)) rfl mo_X3_of (Or.inl (m_o hi)) rfl (lkA q1996) (lkA q1998) (lkA qs38) rfl (lkA q82) mp_X3_of (Nat.le_of_ble_eq_true rfl) (Nat.le_of_ble_eq_true rfl) (Nat.le_of_ble_eq_true rfl) (kr_e ?_) kx_e
            refine r_if_ne 100 dX3_rings_89 rfl (fun c89 => ?_) (fun c89 => ?_)
            · first | refine r_aload_n dX3_rings_100 rfl ?_ | refine r_aload_nq dX3_rings_100 rfl ?_ | refine r_aload_nN dX3_rings_100 rfl ?_
              refine r_getfield 3 0 dX3_rings_101 rfl (Nat.le_of_ble_eq_true rfl) (lkA q1890) (Or.inl rfl) (Or.inl (m_o hi)) (by rfl) ?_
              refine r_iconst (v := 3) dX3_rings_104 rfl ?_
              refine r_iaload (3) dX3_rings_105 (by first | exact Or.inl (m_a0 hi) | exact Or.inl (m_a1 hi) | exact Or.inl (m_a2 hi) | exact Or.inl (m_a3 hi) | exact Or.inl (m_a4 hi) | exact Or.inl (m_a5 hi) | exact Or.inl (m_a6 hi)) rfl (Nat.le_of_ble_eq_true rfl) rfl ?_
              refine r_bipush (v := 40) dX3_rings_106 rfl ?_
              refine r_icmp_ne 119 dX3_rings_108 rfl (fun c108 => ?_) (fun c108 => ?_)
              · exact rings_2 hi (tn x) (tn (gSl (S 0) (tn x) 1)) (tn y) (tn (S 0 3)) hS.2.1 hA.1 hB.2.1 hS.2.2.1 hA.2.1 hB.2.2 (by have := hI.2.2.2.1; unfold tn; omega) (by have := hI.2.2.2.1; have h4 : ¬ (S 0 3).toInt = 40 := (fun e => c108 (by rw [i32_eq, e]; rfl)); unfold tn; omega) (fun hq => (by (try simp only [bi_0, Bool.not_eq_false, s10, ss0, ← Int32.not_lt, Classical.not_not] at c5); (try simp only [bi_0, Bool.not_eq_false, s10, ss0, ← Int32.not_lt, Classical.not_not] at c12); (try simp only [bi_0, Bool.not_eq_false, s10, ss0, ← Int32.not_lt, Classical.not_not] at c25); (try simp only [bi_0, Bool.not_eq_false, s10, ss0, ← Int32.not_lt, Classical.not_not] at c47); (try simp only [bi_0, Bool.not_eq_false, s10, ss0, ← Int32.not_lt, Classical.not_not] at c68); (try simp only [bi_0, Bool.not_eq_false, s10, ss0, ← Int32.not_lt, Classical.not_not] at c89); (try simp only [bi_0, Bool.not_eq_false, s10, ss0, ← Int32.not_lt, Classical.not_not] at c108); simp only [oRings, gRingR, isP, hq, ← Int32.not_lt, c5, c12, c25, c47, c68, c89, c108, if_true, if_false, eq_self, Bool.false_eq_true, not_true_eq_false, not_false_eq_true, true_and, and_true, false_and, and_false, decide_true, decide_false, Bool.not_true, Bool.not_false, Bool.true_and, Bool.false_and]; try rfl)) (fun hq hq2 => (by (try simp only [bi_0, Bool.not_eq_false, s10, ss0, ← Int32.not_lt, Classical.not_not] at c5); (try simp only [bi_0, Bool.not_eq_false, s10, ss0, ← Int32.not_lt, Classical.not_not] at c12); (try simp only [bi_0, Bool.not_eq_false, s10, ss0, ← Int32.not_lt, Classical.not_not] at c25); (try simp only [bi_0, Bool.not_eq_false, s10, ss0, ← Int32.not_lt, Classical.not_not] at c47); (try simp only [bi_0, Bool.not_eq_false, s10, ss0, ← Int32.not_lt, Classical.not_not] at c68); (try simp only [bi_0, Bool.not_eq_false, s10, ss0, ← Int32.not_lt, Classical.not_not] at c89); (try simp only [bi_0, Bool.not_eq_false, s10, ss0, ← Int32.not_lt, Classical.not_not] at c108); simp only [oRings, gRingR, isP, hq, hq2, ← Int32.not_lt, c5, c12, c25, c47, c68, c89, c108, if_true, if_false, eq_self, Bool.false_eq_true, not_true_eq_false, not_false_eq_true, true_and, and_true, false_and, and_false, decide_true, decide_false, Bool.not_true, Bool.not_false, Bool.true_and, Bool.false_and]; try rfl)) (fun hq hq2 => (by (try simp only [bi_0, Bool.not_eq_false, s10, ss0, ← Int32.not_lt, Classical.not_not] at c5); (try simp only [bi_0, Bool.not_eq_false, s10, ss0, ← Int32.not_lt, Classical.not_not] at c12); (try simp only [bi_0, Bool.not_eq_false, s10, ss0, ← Int32.not_lt, Classical.not_not] at c25); (try simp only [bi_0, Bool.not_eq_false, s10, ss0, ← Int32.not_lt, Classical.not_not] at c47); (try simp only [bi_0, Bool.not_eq_false, s10, ss0, ← Int32.not_lt, Classical.not_not] at c68); (try simp only [bi_0, Bool.not_eq_false, s10, ss0, ← Int32.not_lt, Classical.not_not] at c89); (try simp only [bi_0, Bool.not_eq_false, s10, ss0, ← Int32.not_lt, Classical.not_not] at c108); simp only [oRings, gRingR, isP, hq, hq2, ← Int32.not_lt, c5, c12, c25, c47, c68, c89, c108, if_true, if_false, eq_self, Bool.false_eq_true, not_true_eq_false, not_false_eq_true, true_and, and_true, false_and, and_false, decide_true, decide_false, Bool.not_true, Bool.not_false, Bool.true_and, Bool.false_and]; try rfl))
              · first | refine r_aload_n dX3_rings_111 rfl ?_ | refine r_aload_nq dX3_rings_111 rfl ?_ | refine r_aload_nN dX3_rings_111 rfl ?_
                refine r_iconst (v := 1) dX3_rings_112 rfl ?_
                refine r_bipush (v := 40) dX3_rings_113 rfl ?_
                refine r_invV dX3_rings_115 (sp_X3_refuses hi) rfl mo_X3_refuses (Or.inl (m_o hi)) rfl (lkA q1950) (lkA q1952) (lkA qs31) rfl (lkA q82) mp_X3_refuses (Nat.le_of_ble_eq_true rfl) (Nat.le_of_ble_eq_true rfl) (Nat.le_of_ble_eq_true rfl) (kr_e ?_) kx_e
                exact r_ireturn dX3_rings_118 rfl (by first | rfl | exact bi_nar) (res_R (by (try simp only [bi_0, Bool.not_eq_false, s10, ss0, ← Int32.not_lt, Classical.not_not] at c5); (try simp only [bi_0, Bool.not_eq_false, s10, ss0, ← Int32.not_lt, Classical.not_not] at c12); (try simp only [bi_0, Bool.not_eq_false, s10, ss0, ← Int32.not_lt, Classical.not_not] at c25); (try simp only [bi_0, Bool.not_eq_false, s10, ss0, ← Int32.not_lt, Classical.not_not] at c47); (try simp only [bi_0, Bool.not_eq_false, s10, ss0, ← Int32.not_lt, Classical.not_not] at c68); (try simp only [bi_0, Bool.not_eq_false, s10, ss0, ← Int32.not_lt, Classical.not_not] at c89); (try simp only [bi_0, Bool.not_eq_false, s10, ss0, ← Int32.not_lt, Classical.not_not] at c108); simp only [oRings, gRingR, isP, ← Int32.not_lt, c5, c12, c25, c47, c68, c89, c108, if_true, if_false, eq_self, Bool.false_eq_true, not_true_eq_false, not_false_eq_true, true_and, and_true, false_and, and_false, decide_true, decide_false, Bool.not_true, Bool.not_false, Bool.true_and, Bool.false_and]; try rfl) rfl)
            · first | refine r_aload_n dX3_rings_92 rfl ?_ | refine r_aload_nq dX3_rings_92 rfl ?_ | refine r_aload_nN dX3_rings_92 rfl ?_
              refine r_bipush (v := 7) dX3_rings_93 rfl ?_
              refine r_iconst (v := 0) dX3_rings_95 rfl ?_
              refine r_invV dX3_rings_96 (sp_X3_refuses hi) rfl mo_X3_refuses (Or.inl (m_o hi)) rfl (lkA q1950) (lkA q1952) (lkA qs31) rfl (lkA q82) mp_X3_refuses (Nat.le_of_ble_eq_true rfl) (Nat.le_of_ble_eq_true rfl) (Nat.le_of_ble_eq_true rfl) (kr_e ?_) kx_e
              exact r_ireturn dX3_rings_99 rfl (by first | rfl | exact bi_nar) (res_R (by (try simp only [bi_0, Bool.not_eq_false, s10, ss0, ← Int32.not_lt, Classical.not_not] at c5); (try simp only [bi_0, Bool.not_eq_false, s10, ss0, ← Int32.not_lt, Classical.not_not] at c12); (try simp only [bi_0, Bool.not_eq_false, s10, ss0, ← Int32.not_lt, Classical.not_not] at c25); (try simp only [bi_0, Bool.not_eq_false, s10, ss0, ← Int32.not_lt, Classical.not_not] at c47); (try simp only [bi_0, Bool.not_eq_false, s10, ss0, ← Int32.not_lt, Classical.not_not] at c68); (try simp only [bi_0, Bool.not_eq_false, s10, ss0, ← Int32.not_lt, Classical.not_not] at c89); simp only [oRings, gRingR, isP, ← Int32.not_lt, c5, c12, c25, c47, c68, c89, if_true, if_false, eq_self, Bool.false_eq_true, not_true_eq_false, not_false_eq_true, true_and, and_true, false_and, and_false, decide_true, decide_false, Bool.not_true, Bool.not_false, Bool.true_and, Bool.false_and]; try rfl) rfl)
          · first | refine r_aload_n dX3_rings_71 rfl ?_ | refine r_aload_nq dX3_rings_71 rfl ?_ | refine r_aload_nN dX3_rings_71 rfl ?_
            refine r_iconst (v := 3) dX3_rings_72 rfl ?_
            first | refine r_aload_n dX3_rings_73 rfl ?_ | refine r_aload_nq dX3_rings_73 rfl ?_ | refine r_aload_nN dX3_rings_73 rfl ?_
            refine r_invV dX3_rings_74 (sp_X3_left hi) rfl mo_X3_left (Or.inl (m_o hi)) rfl (lkA q2040) (lkA q2042) (lkA qs44) rfl (lkA q82) mp_X3_left (Nat.le_of_ble_eq_true rfl) (Nat.le_of_ble_eq_true rfl) (Nat.le_of_ble_eq_true rfl) (kr_e ?_) kx_e
            refine r_invV dX3_rings_77 (sp_X3_refuses hi) rfl mo_X3_refuses (Or.inl (m_o hi)) rfl (lkA q1950) (lkA q1952) (lkA qs31) rfl (lkA q82) mp_X3_refuses (Nat.le_of_ble_eq_true rfl) (Nat.le_of_ble_eq_true rfl) (Nat.le_of_ble_eq_true rfl) (kr_e ?_) kx_e
            exact r_ireturn dX3_rings_80 rfl (by first | rfl | exact bi_nar) (res_R (by (try simp only [bi_0, Bool.not_eq_false, s10, ss0, ← Int32.not_lt, Classical.not_not] at c5); (try simp only [bi_0, Bool.not_eq_false, s10, ss0, ← Int32.not_lt, Classical.not_not] at c12); (try simp only [bi_0, Bool.not_eq_false, s10, ss0, ← Int32.not_lt, Classical.not_not] at c25); (try simp only [bi_0, Bool.not_eq_false, s10, ss0, ← Int32.not_lt, Classical.not_not] at c47); (try simp only [bi_0, Bool.not_eq_false, s10, ss0, ← Int32.not_lt, Classical.not_not] at c68); simp only [oRings, gRingR, isP, ← Int32.not_lt, c5, c12, c25, c47, c68, if_true, if_false, eq_self, Bool.false_eq_true, not_true_eq_false, not_false_eq_true, true_and, and_true, false_and, and_false, decide_true, decide_false, Bool.not_true, Bool.not_false, Bool.true_and, Bool.false_and]; try rfl) rfl)
        · first | refine r_aload_n dX3_rings_50 rfl ?_ | refine r_aload_nq dX3_rings_50 rfl ?_ | refine r_aload_nN dX3_rings_50 rfl ?_
          refine r_bipush (v := 9) dX3_rings_51 rfl ?_
          first | refine r_aload_n dX3_rings_53 rfl ?_ | refine r_aload_nq dX3_rings_53 rfl ?_ | refine r_aload_nN dX3_rings_53 rfl ?_
          refine r_iload dX3_rings_54 rfl ?_
          refine r_invV dX3_rings_56 (sp_X3_mood hi (tn (gSl (S 0) (tn x) 1)) hA.1 hA.2.1) rfl mo_X3_mood (Or.inl (m_o hi)) rfl (lkA q1965) (lkA q1967) (lkA qs33) rfl (lkA q82) mp_X3_mood (Nat.le_of_ble_eq_true rfl) (Nat.le_of_ble_eq_true rfl) (Nat.le_of_ble_eq_true rfl) (kr_e ?_) kx_e
          refine r_invV dX3_rings_59 (sp_X3_refuses hi) rfl mo_X3_refuses (Or.inl (m_o hi)) rfl (lkA q1950) (lkA q1952) (lkA qs31) rfl (lkA q82) mp_X3_refuses (Nat.le_of_ble_eq_true rfl) (Nat.le_of_ble_eq_true rfl) (Nat.le_of_ble_eq_true rfl) (kr_e ?_) kx_e
          exact r_ireturn dX3_rings_62 rfl (by first | rfl | exact bi_nar) (res_R (by (try simp only [bi_0, Bool.not_eq_false, s10, ss0, ← Int32.not_lt, Classical.not_not] at c5); (try simp only [bi_0, Bool.not_eq_false, s10, ss0, ← Int32.not_lt, Classical.not_not] at c12); (try simp only [bi_0, Bool.not_eq_false, s10, ss0, ← Int32.not_lt, Classical.not_not] at c25); (try simp only [bi_0, Bool.not_eq_false, s10, ss0, ← Int32.not_lt, Classical.not_not] at c47); simp only [oRings, gRingR, isP, ← Int32.not_lt, c5, c12, c25, c47, if_true, if_false, eq_self, Bool.false_eq_true, not_true_eq_false, not_false_eq_true, true_and, and_true, false_and, and_false, decide_true, decide_false, Bool.not_true, Bool.not_false, Bool.true_and, Bool.false_and]; try rfl) rfl)
      · refine r_bipush (v := (-12)) dX3_rings_28 rfl ?_
        exact r_ireturn dX3_rings_30 rfl (by first | rfl | exact bi_nar) (res_C (by (try simp only [bi_0, Bool.not_eq_false, s10, ss0, ← Int32.not_lt, Classical.not_not] at c5); (try simp only [bi_0, Bool.not_eq_false, s10, ss0, ← Int32.not_lt, Classical.not_not] at c12); (try simp only [bi_0, Bool.not_eq_false, s10, ss0, ← Int32.not_lt, Classical.not_not] at c25); simp only [oRings, gRingR, isP, ← Int32.not_lt, c5, c12, c25, if_true, if_false, eq_self, Bool.false_eq_true, not_true_eq_false, not_false_eq_true, true_and, and_true, false_and, and_false, decide_true, decide_false, Bool.not_true, Bool.not_false, Bool.true_and, Bool.false_and]; try rfl) rfl)
    · refine r_bipush (v := (-11)) dX3_rings_15 rfl ?_
      exact r_ireturn dX3_rings_17 rfl (by first | rfl | exact bi_nar) (res_C (by (try simp only [bi_0, Bool.not_eq_false, s10, ss0, ← Int32.not_lt, Classical.not_not] at c5); (try simp only [bi_0, Bool.not_eq_false, s10, ss0, ← Int32.not_lt, Classical.not_not] at c12); simp only [oRings, gRingR, isP, ← Int32.not_lt, c5, c12, if_true, if_false, eq_self, Bool.false_eq_true, not_true_eq_false, not_false_eq_true, true_and, and_true, false_and, and_false, decide_true, decide_false, Bool.not_true, Bool.not_false, Bool.true_and, Bool.false_and]; try rfl) rfl)

