set_option maxRecDepth 100000
theorem iv_ring {D : Int} {w w' : Nat → Int32} {a b p x : Int32} (hV : IV D w) (h : oRings w a b p = oK x w') : IV D w' ∧ 0 ≤ x.toInt := by
  have hB := hV.1
  have ht4 := tn_lt4 hB
  unfold oRings at h
  split at h
  case isFalse => exact oCK h
  case isTrue hc =>
    split at h
    case isFalse => exact oCK h
    case isTrue hp =>
      obtain ⟨hs, -, hsw⟩ := isS_x hB hc.1
      obtain ⟨hb, -⟩ := isB_x hc.2
      have hp1 : 1 ≤ p.toInt ∧ p.toInt ≤ 20 := isn_t.mp hp
      have hP : 0 ≤ (gSl w (tn a) 1).toInt ∧ (gSl w (tn a) 1).toInt ≤ 19 := bx_s hB (k := 1) hs (by omega)
      have hh : tn (gSl w (tn a) 1) < 20 := (tn_g hP).2
      generalize tn (gSl w (tn a) 1) = m at hh h
      generalize tn a = s at hs h hsw
      generalize tn b = c at hb h
      have h1 : 0 ≤ (w 1).toInt ∧ (w 1).toInt ≤ 480 := hB 1
      have e5 : (5 : Int32).toInt = 5 := rfl
      have e480 : (480 : Int32).toInt = 480 := rfl
      unfold gRingR at h
      split at h
      case isTrue => exact oRK h
      case isFalse =>
        split at h
        case isTrue => exact oRK h
        case isFalse c2 =>
          rw [gLeft, lt_I, tSb (by omega)] at c2
          have ea : (w 1 + 5).toInt = (w 1).toInt + 5 := tA (by omega)
          have hB0 : Box D (gRing0 w) := box_4 (box_upd (k := 1) hB ⟨by rw [ea]; show 0 ≤ _; omega, by rw [ea]; show _ ≤ 480; omega⟩) (by omega) (by omega)
          split at h
          case isTrue => exact oRK h
          case isFalse =>
            split at h
            case isTrue => exact oRK h
            case isFalse c4 =>
              split at h
              case isFalse =>
                obtain ⟨rfl, rfl⟩ := oK_i h
                refine ⟨IV_cg hV (box_h (k := 0) hB0 hh (by omega) calm_b) ?_ ?_ ?_ ?_ (fun s2 k h4 hk => ?_) (fun j j1 j2 => ?_), by decide⟩
                all_goals (rw [gCalm, upd_n (by omega), gRing0, upd_n (by omega), upd_n (by omega)])
              case isTrue =>
                split at h
                case isTrue =>
                  obtain ⟨rfl, rfl⟩ := oK_i h
                  refine ⟨IV_cg hV hB0 ?_ ?_ ?_ ?_ (fun s2 k h4 hk => ?_) (fun j j1 j2 => ?_), by decide⟩
                  all_goals (rw [gRing0, upd_n (by omega), upd_n (by omega)])
                case isFalse c6 =>
                  obtain ⟨rfl, rfl⟩ := oK_i h
                  obtain ⟨n1, n4, nx⟩ := wants_b hp1 c6
                  clear c6 h
                  generalize gWants w s m c p = n at n1 n4 nx
                  have hN : tn (w 3) < 40 := by
                    have : ¬ (w 3).toInt = 40 := fun e => c4 (i32_eq.mpr e)
                    have h3 : 0 ≤ (w 3).toInt ∧ (w 3).toInt ≤ 40 := hB 3
                    unfold tn; omega
                  have hK : (w 3).toInt = (tn (w 3) : Int) := ht4.2.2.2
                  generalize hm : tn (w 3) = k at hN hK
                  have rd := sale_rd (n := n) (p := p) hs hh hb hm hN
                  generalize hW : gSale (gRing0 w) s m c n p = W
                  obtain ⟨⟨r1, r3, r6⟩, ⟨rt, rb⟩, ⟨rs, r6s⟩, ⟨k0, k1, k2, k3, k4, k6⟩, rr⟩ := rd W hW.symm
                  clear rd hW
                  have hbr := bx_b hB hs hb
                  have nx : n.toInt ≤ (w (17 + 9 * s + (3 + c))).toInt := nx
                  have en : (-n).toInt = -n.toInt := tNg (by omega)
                  have esb : (w (17 + 9 * s + (3 + c)) + -n).toInt = (w (17 + 9 * s + (3 + c))).toInt - n.toInt := by
                    rw [tA (by omega), en]; omega
                  have e31 : (w 3 + 1).toInt = (k : Int) + 1 := by
                    have e1 : (1 : Int32).toInt = 1 := rfl
                    rw [tA (by omega)]; omega
                  have hk1 : tn (W 3) = k + 1 := by
                    rw [r3]; unfold tn; omega
                  have W2 : W 2 = w 2 := rr 2 (by omega) (by omega) (by omega) (by omega) (by omega) (by omega) (by omega) (by omega) (by omega) (by omega) (by omega) (by omega)
                  have W7 : W 7 = w 7 := rr 7 (by omega) (by omega) (by omega) (by omega) (by omega) (by omega) (by omega) (by omega) (by omega) (by omega) (by omega) (by omega)
                  have hsale : ∀ i z, i < k → z < 7 → W (133 + 7 * i + z) = w (133 + 7 * i + z) := fun i z hi hz => rr _ (by omega) (by omega) (by omega) (by omega) (by omega) (by omega) (by omega) (by omega) (by omega) (by omega) (by omega) (by omega)
                  refine ⟨⟨fun j => ?_, fun i hi => ?_, ⟨?_, ?_⟩, ⟨?_, ?_⟩⟩, by omega⟩
                  · by_cases a1 : j = 1
                    · subst a1; rw [r1]; exact ⟨by rw [ea]; show 0 ≤ _; omega, by rw [ea]; show _ ≤ 480; omega⟩
                    by_cases a3 : j = 3
                    · subst a3; rw [r3]; exact ⟨by rw [e31]; show 0 ≤ _; omega, by rw [e31]; show _ ≤ 40; omega⟩
                    by_cases a4 : 4 ≤ j ∧ j < 14
                    · have : bnd D j = (-2147483648, 2147483647) := by
                        unfold bnd
                        rw [if_neg (by omega), if_neg (by omega), if_neg (by omega), if_neg (by omega), if_pos a4.2]
                      rw [this]; exact free_b _
                    by_cases a5 : j = 53 + 4 * m
                    · subst a5; rw [rt]; have := calm_b (x := w (53 + 4 * m) + 1); rw [show bnd D (53 + 4 * m) = hbd 0 from bnd_h (k := 0) hh (by omega)]; exact this
                    by_cases a6 : j = 53 + 4 * m + 2
                    · subst a6; rw [bnd_h hh (by omega)]; exact free_b _
                    by_cases a7 : j = 53 + 4 * m + 3
                    · subst a7; rw [rb, bnd_h hh (by omega)]; exact or_b hb (bx_h hB (k := 3) hh (by omega))
                    by_cases a8 : j = 17 + 9 * s + (3 + c)
                    · subst a8
                      rw [rs, bnd_s hs (by omega)]
                      have : 0 ≤ (w (17 + 9 * s + (3 + c)) + -n).toInt ∧ (w (17 + 9 * s + (3 + c)) + -n).toInt ≤ 12 := by rw [esb]; omega
                      rcases (show c = 0 ∨ c = 1 ∨ c = 2 by omega) with rfl | rfl | rfl <;> exact this
                    by_cases a9 : j = 17 + 9 * s + 6
                    · subst a9; rw [bnd_s hs (by omega)]; exact free_b _
                    by_cases b1 : j < 133 + 7 * k ∨ 140 + 7 * k ≤ j
                    · rw [rr j a1 a3 (by omega) (by omega) (by omega) (by omega) a5 a6 a7 a8 a9 b1]; exact hB j
                    · obtain ⟨z, hz, rfl⟩ : ∃ z, z < 7 ∧ j = 133 + 7 * k + z := ⟨j - (133 + 7 * k), by omega, by omega⟩
                      rw [bnd_l hN hz]
                      rcases (show z = 0 ∨ z = 1 ∨ z = 2 ∨ z = 3 ∨ z = 4 ∨ z = 5 ∨ z = 6 by omega) with rfl | rfl | rfl | rfl | rfl | rfl | rfl
                      · rw [show W (133 + 7 * k + 0) = nI s from k0, nIn (by omega)]; show (0 : Int) ≤ _ ∧ _ ≤ 3; omega
                      · rw [k1, nIn (by omega)]; show (0 : Int) ≤ _ ∧ _ ≤ 19; omega
                      · rw [k2, nIn (by omega)]; show (0 : Int) ≤ _ ∧ _ ≤ 2; omega
                      · rw [k3]; show (0 : Int) ≤ _ ∧ _ ≤ 4; omega
                      · rw [k4]; show (0 : Int) ≤ _ ∧ _ ≤ 20; omega
                      · exact free_b _
                      · rw [k6]; show (0 : Int) ≤ _ ∧ _ ≤ 1; decide
                  · rw [r3, e31] at hi
                    rw [W2]
                    by_cases e : i = k
                    · subst e
                      rw [k0, k4, nIn (by omega)]
                      exact ⟨by rw [ht4.2.1]; omega, hp1.1⟩
                    · rw [hsale i 4 (by omega) (by omega), show W (133 + 7 * i) = w (133 + 7 * i) from hsale i 0 (by omega) (by omega)]
                      exact hV.2.1 i (by omega)
                  · rw [W2, r6, ← hV.2.2.1.1]
                    exact gSum_up hsw (fun t ht hts => rr _ (by omega) (by omega) (by omega) (by omega) (by omega) (by omega) (by omega) (by omega) (by omega) (by omega) (by omega) (by omega)) r6s
                  · rw [W2, W7, ← hV.2.2.1.2]
                    exact gSum_cg fun t ht => rr _ (by omega) (by omega) (by omega) (by omega) (by omega) (by omega) (by omega) (by omega) (by omega) (by omega) (by omega) (by omega)
                  · rw [hk1, r6, ← hV.2.2.2.1, hm]
                    show sN W k + W (133 + 7 * k + 3) = _
                    rw [k3, (sN_c2 hsale).1]
                  · rw [hk1, W7, ← hV.2.2.2.2, hm]
                    show sK W k + (if W (133 + 7 * k + 6) = 1 then W (133 + 7 * k + 3) else 0) = _
                    rw [k6, (sN_c2 hsale).2, if_neg (by decide), Int32.add_zero]
