set_option maxRecDepth 100000
/-! ===== strings and builders, one byte a sign ===== -/
abbrev asc (x : Int32) : Prop := 0 ≤ x.toInt ∧ x.toInt ≤ 127
def dOnes : Nat → Int32 := fun j => 48 + nI (j % 10)
def dTens : Nat → Int32 := fun j => 48 + nI (j / 10)
def KT (G : GG) : Prop := KS G ∧ (∃ x : Option Nat, Stt G "jdk/internal/util/Preconditions" "SIOOBE_FORMATTER" "Ljava/util/function/BiFunction;" (va_rf x)) ∧ (∃ a : Nat, Stt G "java/lang/Integer" "DigitOnes" "[B" (.ref a) ∧ KK G a (bI 1 100 dOnes)) ∧ (∃ a : Nat, Stt G "java/lang/Integer" "DigitTens" "[B" (.ref a) ∧ KK G a (bI 1 100 dTens))
theorem shr0 (x : Int32) : x >>> ((0 : Int32) &&& 31) = x := by
  rw [show ((0 : Int32) &&& 31) = 0 from by decide]
  exact Int32.shiftRight_zero
theorem shl0 (x : Int32) : x <<< ((0 : Int32) &&& 31) = x := by
  rw [show ((0 : Int32) &&& 31) = 0 from by decide]
  exact Int32.shiftLeft_zero
theorem asc_nI {x : Int32} (h : asc x) : ∃ n : Nat, n < 128 ∧ x = nI n := ⟨x.toInt.toNat, by have := h.1; have := h.2; omega, by
  rw [i32_eq, nIn (by have := h.1; have := h.2; omega)]
  have := h.1
  omega⟩
theorem asc_fit {x : Int32} (h : asc x) : fits .byte (.int x) = true := by
  obtain ⟨n, hn, rfl⟩ := asc_nI h
  exact (by decide +kernel : ∀ n : Nat, n < 128 → fits .byte (.int (nI n)) = true) n hn
theorem asc_c {x : Int32} (h : asc x) : (((x &&& 255).toUInt32 % 65536).toInt32) = x := by
  obtain ⟨n, hn, rfl⟩ := asc_nI h
  exact (by decide +kernel : ∀ n : Nat, n < 128 → (((nI n &&& 255).toUInt32 % 65536).toInt32) = nI n) n hn
theorem asc_i2c {x : Int32} (h : asc x) : ((x.toUInt32 % 65536).toInt32) = x := by
  obtain ⟨n, hn, rfl⟩ := asc_nI h
  exact (by decide +kernel : ∀ n : Nat, n < 128 → (((nI n).toUInt32 % 65536).toInt32) = nI n) n hn
theorem asc_i2b {x : Int32} (h : asc x) : x.toInt8.toInt32 = x := by
  obtain ⟨n, hn, rfl⟩ := asc_nI h
  exact (by decide +kernel : ∀ n : Nat, n < 128 → (nI n).toInt8.toInt32 = nI n) n hn
theorem asc_chr {x : Int32} (h : asc x) : narrow .char (.int x) = .int x := by
  obtain ⟨n, hn, rfl⟩ := asc_nI h
  exact (by decide +kernel : ∀ n : Nat, n < 128 → narrow .char (.int (nI n)) = .int (nI n)) n hn
set_option maxHeartbeats 4000000 in
set_option maxRecDepth 100000 in
theorem sp_J12_coder {G : GG} {h : HP} (hT : KT G) {s v : Nat} {x y : Value} (hs : Has G h s (bO 15 [.ref v, .int 0, x, y]))  : Ct G 0 0 M_J12_coder [.ref s] h (eQ (some (.int 0)) h) := by
  refine ct_intro my_J12_coder (Nat.le_of_ble_eq_true rfl) ?_
  refine r_getstatic (C := "java/lang/String") dJ12_coder_0 (lkA q728) (Or.inl rfl) hT.1.1 ?_
  refine r_if_eq 13 dJ12_coder_3 rfl (fun c3 => absurd c3 (by decide)) (fun c3 => ?_)
  first | refine r_aload_n dJ12_coder_6 rfl ?_ | refine r_aload_nq dJ12_coder_6 rfl ?_ | refine r_aload_nN dJ12_coder_6 rfl ?_
  refine r_getfield 15 1 dJ12_coder_7 rfl (Nat.le_of_ble_eq_true rfl) (lkA q814) (Or.inl rfl) hs (by rfl) ?_
  refine r_goto 14 dJ12_coder_10 rfl ?_
  exact r_ireturn dJ12_coder_14 rfl (by first | rfl | exact bi_nar) (by first | exact ⟨rfl, rfl⟩ | rfl)

set_option maxHeartbeats 4000000 in
set_option maxRecDepth 100000 in
theorem sp_J12_isLatin1 {G : GG} {h : HP} (hT : KT G) {s v : Nat} {x y : Value} (hs : Has G h s (bO 15 [.ref v, .int 0, x, y]))  : Ct G 0 0 M_J12_isLatin1 [.ref s] h (eQ (some (.int 1)) h) := by
  refine ct_intro my_J12_isLatin1 (Nat.le_of_ble_eq_true rfl) ?_
  refine r_getstatic (C := "java/lang/String") dJ12_isLatin1_0 (lkA q728) (Or.inl rfl) hT.1.1 ?_
  refine r_if_eq 17 dJ12_isLatin1_3 rfl (fun c3 => absurd c3 (by decide)) (fun c3 => ?_)
  first | refine r_aload_n dJ12_isLatin1_6 rfl ?_ | refine r_aload_nq dJ12_isLatin1_6 rfl ?_ | refine r_aload_nN dJ12_isLatin1_6 rfl ?_
  refine r_getfield 15 1 dJ12_isLatin1_7 rfl (Nat.le_of_ble_eq_true rfl) (lkA q814) (Or.inl rfl) hs (by rfl) ?_
  refine r_if_ne 17 dJ12_isLatin1_10 rfl (fun c10 => absurd c10 (by decide)) (fun c10 => ?_)
  refine r_iconst (v := 1) dJ12_isLatin1_13 rfl ?_
  refine r_goto 18 dJ12_isLatin1_14 rfl ?_
  exact r_ireturn dJ12_isLatin1_18 rfl (by first | rfl | exact bi_nar) (by first | exact ⟨rfl, rfl⟩ | rfl)

set_option maxHeartbeats 4000000 in
set_option maxRecDepth 100000 in
theorem sp_J12_length {G : GG} {h : HP} (hT : KT G) {s v : Nat} {x y : Value} (hs : Has G h s (bO 15 [.ref v, .int 0, x, y])) {L : Nat} {f : Nat → Int32} (hv : Has G h v (bI 1 L f))  : Ct G 1 0 M_J12_length [.ref s] h (eQ (some (.int (nI L))) h) := by
  refine ct_intro my_J12_length (Nat.le_of_ble_eq_true rfl) ?_
  first | refine r_aload_n dJ12_length_0 rfl ?_ | refine r_aload_nq dJ12_length_0 rfl ?_ | refine r_aload_nN dJ12_length_0 rfl ?_
  refine r_getfield 15 0 dJ12_length_1 rfl (Nat.le_of_ble_eq_true rfl) (lkA q813) (Or.inl rfl) hs (by rfl) ?_
  refine r_alenI _ (Nat.le_of_ble_eq_true rfl) dJ12_length_4 hv rfl ?_
  first | refine r_aload_n dJ12_length_5 rfl ?_ | refine r_aload_nq dJ12_length_5 rfl ?_ | refine r_aload_nN dJ12_length_5 rfl ?_
  refine r_invV dJ12_length_6 (sp_J12_coder hT hs) rfl mo_J12_coder hs rfl (lkA q724) (lkA q725) (lkA q726) rfl (lkA q80) mp_J12_coder (Nat.le_of_ble_eq_true rfl) (Nat.le_of_ble_eq_true rfl) (Nat.le_of_ble_eq_true rfl) (kr_e ?_) kx_e
  refine r_ishr dJ12_length_9 ?_
  rw [shr0]
  exact r_ireturn dJ12_length_10 rfl (by first | rfl | exact bi_nar) (by first | exact ⟨rfl, rfl⟩ | rfl)

set_option maxHeartbeats 4000000 in
set_option maxRecDepth 100000 in
theorem sp_J12_checkIndex {G : GG} {h : HP} (hT : KT G) {i n : Int32} (h0 : 0 ≤ i.toInt) (h1 : i.toInt < n.toInt) : Ct G 1 0 M_J12_checkIndex [.int i, .int n] h (eQ none h) := by
  refine ct_intro my_J12_checkIndex (Nat.le_of_ble_eq_true rfl) ?_
  obtain ⟨x, hx⟩ := hT.2.1
  refine r_iload_n dJ12_checkIndex_0 rfl ?_
  refine r_iload_n dJ12_checkIndex_1 rfl ?_
  refine r_getstatic (C := "jdk/internal/util/Preconditions") dJ12_checkIndex_2 (lkA q706) (Or.inl rfl) hx ?_
  refine r_invS dJ12_checkIndex_5 (sp_J15_checkIndex h0 h1) rfl mo_J15_checkIndex (lkA q1449) (lkA q448) (lkA q84) mp_J15_checkIndex (Nat.le_of_ble_eq_true rfl) (Nat.le_of_ble_eq_true rfl) (Nat.le_of_ble_eq_true rfl) (kr_e ?_) kx_e
  refine r_pop dJ12_checkIndex_8 rfl ?_
  exact r_return dJ12_checkIndex_9 rfl (by first | exact ⟨rfl, rfl⟩ | rfl)

set_option maxHeartbeats 4000000 in
set_option maxRecDepth 100000 in
theorem sp_J21_charAt {G : GG} {h : HP} (hT : KT G) {v j : Nat} {i : Int32} {L : Nat} {f : Nat → Int32} (hv : Has G h v (bI 1 L f)) (hj : i.toInt = (j : Int)) (hjL : j < L) (hL : L < 1000) (ha : asc (f j)) : Ct G 2 0 M_J21_charAt [.ref v, .int i] h (eQ (some (.int (f j))) h) := by
  refine ct_intro my_J21_charAt (Nat.le_of_ble_eq_true rfl) ?_
  refine r_iload_n dJ21_charAt_0 rfl ?_
  first | refine r_aload_n dJ21_charAt_1 rfl ?_ | refine r_aload_nq dJ21_charAt_1 rfl ?_ | refine r_aload_nN dJ21_charAt_1 rfl ?_
  refine r_alenI _ (Nat.le_of_ble_eq_true rfl) dJ21_charAt_2 hv rfl ?_
  refine r_invS dJ21_charAt_3 (sp_J12_checkIndex hT (i := i) (n := nI L) (by omega) (by rw [nIn hL]; omega)) rfl mo_J12_checkIndex (lkA q1528) (lkA q1447) (lkA q80) mp_J12_checkIndex (Nat.le_of_ble_eq_true rfl) (Nat.le_of_ble_eq_true rfl) (Nat.le_of_ble_eq_true rfl) (kr_e ?_) kx_e
  first | refine r_aload_n dJ21_charAt_6 rfl ?_ | refine r_aload_nq dJ21_charAt_6 rfl ?_ | refine r_aload_nN dJ21_charAt_6 rfl ?_
  refine r_iload_n dJ21_charAt_7 rfl ?_
  refine r_baload (j) dJ21_charAt_8 hv hj hjL rfl ?_
  refine r_sipush (v := 255) dJ21_charAt_9 rfl ?_
  refine r_iand dJ21_charAt_12 ?_
  refine r_i2c dJ21_charAt_13 ?_
  rw [asc_c ha]
  exact r_ireturn dJ21_charAt_14 rfl (asc_chr ha) (by first | exact ⟨rfl, rfl⟩ | rfl)

set_option maxHeartbeats 4000000 in
set_option maxRecDepth 100000 in
theorem sp_J12_charAt {G : GG} {h : HP} (hT : KT G) {s v : Nat} {x y : Value} (hs : Has G h s (bO 15 [.ref v, .int 0, x, y])) {j : Nat} {i : Int32} {L : Nat} {f : Nat → Int32} (hv : Has G h v (bI 1 L f)) (hj : i.toInt = (j : Int)) (hjL : j < L) (hL : L < 1000) (ha : asc (f j)) : Ct G 3 0 M_J12_charAt [.ref s, .int i] h (eQ (some (.int (f j))) h) := by
  refine ct_intro my_J12_charAt (Nat.le_of_ble_eq_true rfl) ?_
  first | refine r_aload_n dJ12_charAt_0 rfl ?_ | refine r_aload_nq dJ12_charAt_0 rfl ?_ | refine r_aload_nN dJ12_charAt_0 rfl ?_
  refine r_invV dJ12_charAt_1 (sp_J12_isLatin1 hT hs) rfl mo_J12_isLatin1 hs rfl (lkA q1521) (lkA q1522) (lkA q1523) rfl (lkA q80) mp_J12_isLatin1 (Nat.le_of_ble_eq_true rfl) (Nat.le_of_ble_eq_true rfl) (Nat.le_of_ble_eq_true rfl) (kr_e ?_) kx_e
  refine r_if_eq 16 dJ12_charAt_4 rfl (fun c4 => absurd c4 (by decide)) (fun c4 => ?_)
  first | refine r_aload_n dJ12_charAt_7 rfl ?_ | refine r_aload_nq dJ12_charAt_7 rfl ?_ | refine r_aload_nN dJ12_charAt_7 rfl ?_
  refine r_getfield 15 0 dJ12_charAt_8 rfl (Nat.le_of_ble_eq_true rfl) (lkA q813) (Or.inl rfl) hs (by rfl) ?_
  refine r_iload_n dJ12_charAt_11 rfl ?_
  refine r_invS dJ12_charAt_12 (sp_J21_charAt hT hv hj hjL hL ha) rfl mo_J21_charAt (lkA q1525) (lkA q1526) (lkA q90) mp_J21_charAt (Nat.le_of_ble_eq_true rfl) (Nat.le_of_ble_eq_true rfl) (Nat.le_of_ble_eq_true rfl) (kr_e ?_) kx_e
  exact r_ireturn dJ12_charAt_15 rfl (asc_chr ha) (by first | exact ⟨rfl, rfl⟩ | rfl)

set_option maxHeartbeats 4000000 in
set_option maxRecDepth 100000 in
theorem sp_J12_getBytes {G : GG} {h : HP} (hT : KT G) {s v : Nat} {x y : Value} (hs : Has G h s (bO 15 [.ref v, .int 0, x, y])) {L : Nat} {f : Nat → Int32} (hv : Has G h v (bI 1 L f)) {r N n : Nat} {g : Nat → Int32} (hr : h r = some (bI 1 N g)) (hL : L < 1000) (hn : n < 1000) (hN : n + L ≤ N) (ha : ∀ j, j < L → asc (f j)) : Ct G 2 0 M_J12_getBytes [.ref s, .ref r, .int (nI n), .int 0] h (eQ none (hu h r (bI 1 N (va_cpy f g 0 n L)))) := by
  refine ct_intro my_J12_getBytes (Nat.le_of_ble_eq_true rfl) ?_
  first | refine r_aload_n dJ12_getBytes_0 rfl ?_ | refine r_aload_nq dJ12_getBytes_0 rfl ?_ | refine r_aload_nN dJ12_getBytes_0 rfl ?_
  refine r_invV dJ12_getBytes_1 (sp_J12_coder hT hs) rfl mo_J12_coder hs rfl (lkA q724) (lkA q725) (lkA q726) rfl (lkA q80) mp_J12_coder (Nat.le_of_ble_eq_true rfl) (Nat.le_of_ble_eq_true rfl) (Nat.le_of_ble_eq_true rfl) (kr_e ?_) kx_e
  refine r_iload_n dJ12_getBytes_4 rfl ?_
  refine r_icmp_ne 28 dJ12_getBytes_5 rfl (fun c5 => absurd c5 (fun e => e rfl)) (fun c5 => ?_)
  first | refine r_aload_n dJ12_getBytes_8 rfl ?_ | refine r_aload_nq dJ12_getBytes_8 rfl ?_ | refine r_aload_nN dJ12_getBytes_8 rfl ?_
  refine r_getfield 15 0 dJ12_getBytes_9 rfl (Nat.le_of_ble_eq_true rfl) (lkA q813) (Or.inl rfl) hs (by rfl) ?_
  refine r_iconst (v := 0) dJ12_getBytes_12 rfl ?_
  first | refine r_aload_n dJ12_getBytes_13 rfl ?_ | refine r_aload_nq dJ12_getBytes_13 rfl ?_ | refine r_aload_nN dJ12_getBytes_13 rfl ?_
  refine r_iload_n dJ12_getBytes_14 rfl ?_
  refine r_iload_n dJ12_getBytes_15 rfl ?_
  refine r_ishl dJ12_getBytes_16 ?_
  rw [shl0]
  first | refine r_aload_n dJ12_getBytes_17 rfl ?_ | refine r_aload_nq dJ12_getBytes_17 rfl ?_ | refine r_aload_nN dJ12_getBytes_17 rfl ?_
  refine r_getfield 15 0 dJ12_getBytes_18 rfl (Nat.le_of_ble_eq_true rfl) (lkA q813) (Or.inl rfl) hs (by rfl) ?_
  refine r_alenI _ (Nat.le_of_ble_eq_true rfl) dJ12_getBytes_21 hv rfl ?_
  refine r_copy 0 n L dJ12_getBytes_22 (Or.inr rfl) (lkA q761) (lkA q294) (lkA q293) (lkA q76) hv hr rfl (nIn hn) (nIn hL) (by omega) hN (fun _ i hi => by rw [Nat.zero_add]; exact asc_fit (ha i hi)) (Nat.le_of_ble_eq_true rfl) (Nat.le_of_ble_eq_true rfl) ?_
  refine r_goto 43 dJ12_getBytes_25 rfl ?_
  exact r_return dJ12_getBytes_43 rfl (by first | exact ⟨rfl, rfl⟩ | rfl)

/-- a builder: its cell, its bytes, what it holds -/
def SB (h : HP) (a r N : Nat) (l : List Int32) : Prop := ∃ (m : Int32) (g : Nat → Int32), h a = some (bO 14 [.ref r, .int 0, .int m, .int (nI l.length)]) ∧ h r = some (bI 1 N g) ∧ l.length ≤ N ∧ N ≤ 130 ∧ (∀ j, j < N → asc (g j)) ∧ ∀ j, j < l.length → g j = l.getD j 0
theorem asc_0 : asc 0 := by decide
theorem max_i {a b : Nat} (ha : a < 1000) (hb : b < 1000) : imax (nI a) (nI b) = nI (max a b) := by
  unfold imax
  by_cases e : nI a < nI b
  · rw [if_pos e]
    rw [Int32.lt_iff_toInt_lt, nIn ha, nIn hb] at e
    rw [show max a b = b by omega]
  · rw [if_neg e]
    rw [Int32.lt_iff_toInt_lt, nIn ha, nIn hb] at e
    rw [show max a b = a by omega]
theorem min_i {a b : Nat} (ha : a < 1000) (hb : b < 1000) : imin (nI a) (nI b) = nI (min a b) := by
  unfold imin
  by_cases e : nI b < nI a
  · rw [if_pos e]
    rw [Int32.lt_iff_toInt_lt, nIn ha, nIn hb] at e
    rw [show min a b = b by omega]
  · rw [if_neg e]
    rw [Int32.lt_iff_toInt_lt, nIn ha, nIn hb] at e
    rw [show min a b = a by omega]
theorem nJ_add {a b : Nat} (h : a + b < 1000) : nI a + nI b = nI (a + b) := by
  rw [i32_eq, tI_add, nIn (by omega), nIn (by omega), nIn h, if_pos (by omega)]
  omega
theorem nJ_sub {a b : Nat} (ha : a < 1000) (h : b ≤ a) : nI a - nI b = nI (a - b) := by
  rw [i32_eq, tI_sub, nIn ha, nIn (by omega), nIn (by omega), if_pos (by omega)]
  omega
theorem nJ_le {a b : Nat} (ha : a < 1000) (hb : b < 1000) : nI a ≤ nI b ↔ a ≤ b := by
  rw [Int32.le_iff_toInt_le, nIn ha, nIn hb]
  omega
theorem nJ_lt {a b : Nat} (ha : a < 1000) (hb : b < 1000) : nI a < nI b ↔ a < b := by
  rw [Int32.lt_iff_toInt_lt, nIn ha, nIn hb]
  omega
theorem nJ_eq {a b : Nat} (ha : a < 1000) (hb : b < 1000) : nI a = nI b ↔ a = b := by
  rw [i32_eq, nIn ha, nIn hb]
  omega
set_option maxHeartbeats 4000000 in
set_option maxRecDepth 100000 in
theorem sp_J10_init {G : GG} {h : HP} (hT : KT G) {a : Nat} {x0 : Value} {m c : Int32} (ha : h a = some (bO 14 [x0, .int 0, .int m, .int c])) : Ct G 1 17 M_J10_init [.ref a, .int 16] h (rQ (fun v h' => v = none ∧ ∃ r, h r = none ∧ h' = hu (hu h r (bI 1 16 (fun _ => 0))) a (bO 14 [.ref r, .int 0, .int m, .int c]))) := by
  refine ct_intro my_J10_init (Nat.le_of_ble_eq_true rfl) ?_
  first | refine r_aload_n dJ10_init_0 rfl ?_ | refine r_aload_nq dJ10_init_0 rfl ?_ | refine r_aload_nN dJ10_init_0 rfl ?_
  refine r_objinit (w1 := .tt) dJ10_init_1 (lkA q378) (lkA q112) (lkA q113) (Nat.le_of_ble_eq_true rfl) (Nat.le_of_ble_eq_true rfl) ?_
  refine r_getstatic (C := "java/lang/String") dJ10_init_4 (lkA q379) (Or.inl rfl) hT.1.1 ?_
  refine r_if_eq 25 dJ10_init_7 rfl (fun c7 => absurd c7 (by decide)) (fun c7 => ?_)
  first | refine r_aload_n dJ10_init_10 rfl ?_ | refine r_aload_nq dJ10_init_10 rfl ?_ | refine r_aload_nN dJ10_init_10 rfl ?_
  refine r_iload_n dJ10_init_11 rfl ?_
  refine r_newaB 16 dJ10_init_12 (lkA q402) rfl (Nat.le_of_ble_eq_true rfl) (Nat.le_of_ble_eq_true rfl) (fun q12 hq12 => ?_)
  refine r_put 14 0 dJ10_init_14 rfl (Nat.le_of_ble_eq_true rfl) (lkA q388) (Or.inl rfl) rfl (by repeat' first | assumption | exact hu_s | refine hu_o (by assumption) ?_ | refine (hu_n (by first | assumption | exact Ne.symm (by assumption) | exact ne_o (by assumption) (by assumption) | exact Ne.symm (ne_o (by assumption) (by assumption)))).trans ?_) (by dsimp only [List.set]) (Nat.le_of_ble_eq_true rfl) rfl rfl (by first | exact hu_hu | exact rfl) ?_
  first | refine r_aload_n dJ10_init_17 rfl ?_ | refine r_aload_nq dJ10_init_17 rfl ?_ | refine r_aload_nN dJ10_init_17 rfl ?_
  refine r_iconst (v := 0) dJ10_init_18 rfl ?_
  refine r_put 14 1 dJ10_init_19 rfl (Nat.le_of_ble_eq_true rfl) (lkA q389) (Or.inl rfl) rfl (by repeat' first | assumption | exact hu_s | refine hu_o (by assumption) ?_ | refine (hu_n (by first | assumption | exact Ne.symm (by assumption) | exact ne_o (by assumption) (by assumption) | exact Ne.symm (ne_o (by assumption) (by assumption)))).trans ?_) (by dsimp only [List.set]) (Nat.le_of_ble_eq_true rfl) rfl rfl (by first | exact hu_hu | exact rfl) ?_
  refine r_goto 38 dJ10_init_22 rfl ?_
  exact r_return dJ10_init_38 rfl ⟨rfl, q12, hq12, rfl⟩

set_option maxHeartbeats 4000000 in
set_option maxRecDepth 100000 in
theorem sp_J11_init {G : GG} {h : HP} (hT : KT G) {a : Nat} (ha : h a = some (bO 14 [.null, .int 0, .int 0, .int 0])) : Ct G 2 17 M_J11_init [.ref a] h (rQ (fun v h' => v = none ∧ ∃ r, h r = none ∧ r ≠ a ∧ h' = hu (hu h r (bI 1 16 (fun _ => 0))) a (bO 14 [.ref r, .int 0, .int 0, .int 0]))) := by
  refine ct_intro my_J11_init (Nat.le_of_ble_eq_true rfl) ?_
  first | refine r_aload_n dJ11_init_0 rfl ?_ | refine r_aload_nq dJ11_init_0 rfl ?_ | refine r_aload_nN dJ11_init_0 rfl ?_
  refine r_bipush (v := 16) dJ11_init_1 rfl ?_
  refine r_invI dJ11_init_3 (sp_J10_init hT ha) rfl mo_J10_init (lkA q375) (lkA q376) rfl rfl rfl (lkA q78) mp_J10_init (Nat.le_of_ble_eq_true rfl) (Nat.le_of_ble_eq_true rfl) (Nat.le_of_ble_eq_true rfl) (kr_r (fun v9 h9 p9 => ?_)) kx_r
  obtain ⟨rfl, r, hr, rfl⟩ := p9
  exact r_return dJ11_init_6 rfl ⟨rfl, r, hr, Ne.symm (ne_o hr ha), rfl⟩

set_option maxHeartbeats 4000000 in
set_option maxRecDepth 100000 in
theorem sp_J10_isLatin1 {G : GG} {h : HP} (hT : KT G) {a r N : Nat} {m c : Int32} {g : Nat → Int32} (ha : h a = some (bO 14 [.ref r, .int 0, .int m, .int c]))  : Ct G 0 0 M_J10_isLatin1 [.ref a] h (eQ (some (.int 1)) h) := by
  refine ct_intro my_J10_isLatin1 (Nat.le_of_ble_eq_true rfl) ?_
  refine r_getstatic (C := "java/lang/String") dJ10_isLatin1_0 (lkA q379) (Or.inl rfl) hT.1.1 ?_
  refine r_if_eq 17 dJ10_isLatin1_3 rfl (fun c3 => absurd c3 (by decide)) (fun c3 => ?_)
  first | refine r_aload_n dJ10_isLatin1_6 rfl ?_ | refine r_aload_nq dJ10_isLatin1_6 rfl ?_ | refine r_aload_nN dJ10_isLatin1_6 rfl ?_
  refine r_getfield 14 1 dJ10_isLatin1_7 rfl (Nat.le_of_ble_eq_true rfl) (lkA q389) (Or.inl rfl) (Or.inl ha) (by rfl) ?_
  refine r_if_ne 17 dJ10_isLatin1_10 rfl (fun c10 => absurd c10 (by decide)) (fun c10 => ?_)
  refine r_iconst (v := 1) dJ10_isLatin1_13 rfl ?_
  refine r_goto 18 dJ10_isLatin1_14 rfl ?_
  exact r_ireturn dJ10_isLatin1_18 rfl (by first | rfl | exact bi_nar) (by first | exact ⟨rfl, rfl⟩ | rfl)

set_option maxHeartbeats 4000000 in
set_option maxRecDepth 100000 in
theorem sp_J6_newLength {G : GG} {h : HP} {a b k : Nat} (h1 : a < 200) (h2 : b < 200) (h3 : k < 200) (h0 : 0 < b) : Ct G 1 0 M_J6_newLength [.int (nI a), .int (nI b), .int (nI k)] h (eQ (some (.int (nI (a + max b k)))) h) := by
  refine ct_intro my_J6_newLength (Nat.le_of_ble_eq_true rfl) ?_
  refine r_iload_n dJ6_newLength_0 rfl ?_
  refine r_iload_n dJ6_newLength_1 rfl ?_
  refine r_iload_n dJ6_newLength_2 rfl ?_
  refine r_mmax dJ6_newLength_3 (lkA q247) (lkA q248) (lkA q74) (lkA q249) (Nat.le_of_ble_eq_true rfl) (Nat.le_of_ble_eq_true rfl) ?_
  rw [max_i (by omega) (by omega)]
  refine r_iadd dJ6_newLength_6 ?_
  rw [nJ_add (by omega)]
  refine r_istore_n dJ6_newLength_7 (Nat.le_of_ble_eq_true rfl) ?_
  refine r_iconst (v := 0) dJ6_newLength_8 rfl ?_
  refine r_iload_n dJ6_newLength_9 rfl ?_
  refine r_icmp_ge 21 dJ6_newLength_10 rfl (fun c10 => absurd c10 (by rw [Int32.le_iff_toInt_le, nIn (by omega)]; have h0 : (0 : Int32).toInt = 0 := rfl; omega)) (fun c10 => ?_)
  refine r_iload_n dJ6_newLength_13 rfl ?_
  refine r_ldc dJ6_newLength_14 (lkA q250) ?_
  refine r_icmp_gt 21 dJ6_newLength_16 rfl (fun c16 => absurd c16 (by rw [Int32.lt_iff_toInt_lt, nIn (by omega)]; have h0 : (2147483639 : Int32).toInt = 2147483639 := rfl; omega)) (fun c16 => ?_)
  refine r_iload_n dJ6_newLength_19 rfl ?_
  exact r_ireturn dJ6_newLength_20 rfl (by first | rfl | exact bi_nar) (by first | exact ⟨rfl, rfl⟩ | rfl)

set_option maxHeartbeats 4000000 in
set_option maxRecDepth 100000 in
theorem sp_J10_newCapacity {G : GG} {h : HP} {a r N : Nat} {m c : Int32} {g : Nat → Int32} (ha : h a = some (bO 14 [.ref r, .int 0, .int m, .int c])) (hr : h r = some (bI 1 N g)) {k : Nat} (hN : N ≤ 130) (hk : N < k) (hk2 : k ≤ 64) : Ct G 2 0 M_J10_newCapacity [.ref a, .int (nI k)] h (eQ (some (.int (nI (N + max (k - N) (N + 2))))) h) := by
  refine ct_intro my_J10_newCapacity (Nat.le_of_ble_eq_true rfl) ?_
  first | refine r_aload_n dJ10_newCapacity_0 rfl ?_ | refine r_aload_nq dJ10_newCapacity_0 rfl ?_ | refine r_aload_nN dJ10_newCapacity_0 rfl ?_
  refine r_getfield 14 0 dJ10_newCapacity_1 rfl (Nat.le_of_ble_eq_true rfl) (lkA q388) (Or.inl rfl) (Or.inl ha) (by rfl) ?_
  refine r_alenI _ (Nat.le_of_ble_eq_true rfl) dJ10_newCapacity_4 (Or.inl hr) rfl ?_
  refine r_istore_n dJ10_newCapacity_5 (Nat.le_of_ble_eq_true rfl) ?_
  refine r_iload_n dJ10_newCapacity_6 rfl ?_
  first | refine r_aload_n dJ10_newCapacity_7 rfl ?_ | refine r_aload_nq dJ10_newCapacity_7 rfl ?_ | refine r_aload_nN dJ10_newCapacity_7 rfl ?_
  refine r_getfield 14 1 dJ10_newCapacity_8 rfl (Nat.le_of_ble_eq_true rfl) (lkA q389) (Or.inl rfl) (Or.inl ha) (by rfl) ?_
  refine r_ishl dJ10_newCapacity_11 ?_
  rw [shl0]
  refine r_istore_n dJ10_newCapacity_12 (Nat.le_of_ble_eq_true rfl) ?_
  refine r_iload_n dJ10_newCapacity_13 rfl ?_
  refine r_iload_n dJ10_newCapacity_14 rfl ?_
  refine r_isub dJ10_newCapacity_15 ?_
  rw [nJ_sub (by omega) (by omega)]
  refine r_istore dJ10_newCapacity_16 (Nat.le_of_ble_eq_true rfl) ?_
  refine r_iload_n dJ10_newCapacity_18 rfl ?_
  refine r_iload dJ10_newCapacity_19 rfl ?_
  refine r_iload_n dJ10_newCapacity_21 rfl ?_
  refine r_iconst (v := 2) dJ10_newCapacity_22 rfl ?_
  first | refine r_aload_n dJ10_newCapacity_23 rfl ?_ | refine r_aload_nq dJ10_newCapacity_23 rfl ?_ | refine r_aload_nN dJ10_newCapacity_23 rfl ?_
  refine r_getfield 14 1 dJ10_newCapacity_24 rfl (Nat.le_of_ble_eq_true rfl) (lkA q389) (Or.inl rfl) (Or.inl ha) (by rfl) ?_
  refine r_ishl dJ10_newCapacity_27 ?_
  rw [shl0]
  refine r_iadd dJ10_newCapacity_28 ?_
  rw [show (2 : Int32) = nI 2 from rfl, nJ_add (by omega)]
  refine r_invS dJ10_newCapacity_29 (sp_J6_newLength (by omega) (by omega) (by omega) (by omega)) rfl mo_J6_newLength (lkA q679) (lkA q245) (lkA q73) mp_J6_newLength (Nat.le_of_ble_eq_true rfl) (Nat.le_of_ble_eq_true rfl) (Nat.le_of_ble_eq_true rfl) (kr_e ?_) kx_e
  refine r_istore dJ10_newCapacity_32 (Nat.le_of_ble_eq_true rfl) ?_
  refine r_iload dJ10_newCapacity_34 rfl ?_
  refine r_ldc dJ10_newCapacity_36 (lkA q680) ?_
  refine r_icmp_ne 51 dJ10_newCapacity_38 rfl (fun c38 => ?_) (fun c38 => absurd c38 (by intro e; have h9 := i32_eq.mp e; rw [nIn (by omega)] at h9; have h0 : (2147483647 : Int32).toInt = 2147483647 := rfl; omega))
  refine r_iload dJ10_newCapacity_51 rfl ?_
  first | refine r_aload_n dJ10_newCapacity_53 rfl ?_ | refine r_aload_nq dJ10_newCapacity_53 rfl ?_ | refine r_aload_nN dJ10_newCapacity_53 rfl ?_
  refine r_getfield 14 1 dJ10_newCapacity_54 rfl (Nat.le_of_ble_eq_true rfl) (lkA q389) (Or.inl rfl) (Or.inl ha) (by rfl) ?_
  refine r_ishr dJ10_newCapacity_57 ?_
  rw [shr0]
  exact r_ireturn dJ10_newCapacity_58 rfl (by first | rfl | exact bi_nar) (by first | exact ⟨rfl, rfl⟩ | rfl)

set_option maxHeartbeats 4000000 in
set_option maxRecDepth 100000 in
theorem sp_J8_copyOf_4 {G : GG} {h : HP} {r N N2 : Nat} {g : Nat → Int32} (hr : h r = some (bI 1 N g)) (h1 : N < N2) (h2 : N2 < 300) (ha : ∀ j, j < N → asc (g j)) : Ct G 1 301 M_J8_copyOf_4 [.ref r, .int (nI N2)] h (rQ (fun v h' => ∃ q, v = some (.ref q) ∧ h q = none ∧ h' = hu h q (bI 1 N2 (va_cpy g (fun _ => 0) 0 0 N)))) := by
  refine ct_intro my_J8_copyOf_4 (Nat.le_of_ble_eq_true rfl) ?_
  refine r_iload_n dJ8_copyOf_4_0 rfl ?_
  first | refine r_aload_n dJ8_copyOf_4_1 rfl ?_ | refine r_aload_nq dJ8_copyOf_4_1 rfl ?_ | refine r_aload_nN dJ8_copyOf_4_1 rfl ?_
  refine r_alenI _ (Nat.le_of_ble_eq_true rfl) dJ8_copyOf_4_2 (Or.inl hr) rfl ?_
  refine r_icmp_ne 14 dJ8_copyOf_4_3 rfl (fun c3 => ?_) (fun c3 => absurd c3 (by rw [nJ_eq (by omega) (by omega)]; omega))
  refine r_iload_n dJ8_copyOf_4_14 rfl ?_
  refine r_newaB N2 dJ8_copyOf_4_15 (lkA q402) (nIn (by omega)) (by omega) (by omega) (fun q15 hq15 => ?_)
  first | refine r_astore_n dJ8_copyOf_4_17 (Nat.le_of_ble_eq_true rfl) ?_ | refine r_astore_nq dJ8_copyOf_4_17 (Nat.le_of_ble_eq_true rfl) ?_ | refine r_astore_nN dJ8_copyOf_4_17 (Nat.le_of_ble_eq_true rfl) ?_
  first | refine r_aload_n dJ8_copyOf_4_18 rfl ?_ | refine r_aload_nq dJ8_copyOf_4_18 rfl ?_ | refine r_aload_nN dJ8_copyOf_4_18 rfl ?_
  refine r_iconst (v := 0) dJ8_copyOf_4_19 rfl ?_
  first | refine r_aload_n dJ8_copyOf_4_20 rfl ?_ | refine r_aload_nq dJ8_copyOf_4_20 rfl ?_ | refine r_aload_nN dJ8_copyOf_4_20 rfl ?_
  refine r_iconst (v := 0) dJ8_copyOf_4_21 rfl ?_
  first | refine r_aload_n dJ8_copyOf_4_22 rfl ?_ | refine r_aload_nq dJ8_copyOf_4_22 rfl ?_ | refine r_aload_nN dJ8_copyOf_4_22 rfl ?_
  refine r_alenI _ (Nat.le_of_ble_eq_true rfl) dJ8_copyOf_4_23 (Or.inl (hu_o hq15 hr)) rfl ?_
  refine r_iload_n dJ8_copyOf_4_24 rfl ?_
  refine r_mmin dJ8_copyOf_4_25 (lkA q289) (lkA q290) (lkA q74) (lkA q291) (Nat.le_of_ble_eq_true rfl) (Nat.le_of_ble_eq_true rfl) ?_
  rw [min_i (by omega) (by omega), show min N N2 = N by omega]
  refine r_copy 0 0 N dJ8_copyOf_4_28 (Or.inr rfl) (lkA q292) (lkA q294) (lkA q293) (lkA q76) (Or.inl (hu_o hq15 hr)) hu_s rfl rfl (nIn (by omega)) (by omega) (by omega) (fun _ i hi => by rw [Nat.zero_add]; exact asc_fit (ha i hi)) (Nat.le_of_ble_eq_true rfl) (Nat.le_of_ble_eq_true rfl) ?_
  rw [hu_hu]
  first | refine r_aload_n dJ8_copyOf_4_31 rfl ?_ | refine r_aload_nq dJ8_copyOf_4_31 rfl ?_ | refine r_aload_nN dJ8_copyOf_4_31 rfl ?_
  first | exact r_areturn dJ8_copyOf_4_32 rfl rfl ⟨q15, rfl, hq15, rfl⟩ | exact r_areturnq dJ8_copyOf_4_32 rfl rfl ⟨q15, rfl, hq15, rfl⟩ | exact r_areturnN dJ8_copyOf_4_32 rfl rfl ⟨q15, rfl, hq15, rfl⟩

set_option maxHeartbeats 4000000 in
set_option maxRecDepth 100000 in
theorem sp_cap0 {G : GG} {h : HP} {a r N : Nat} {m c : Int32} {g : Nat → Int32} (ha : h a = some (bO 14 [.ref r, .int 0, .int m, .int c])) (hr : h r = some (bI 1 N g)) {k : Nat} (hk : k ≤ N) (hN : N ≤ 130) : Ct G 3 301 M_J10_ensureCapacityInternal [.ref a, .int (nI k)] h (eQ none h) := by
  refine ct_intro my_J10_ensureCapacityInternal (Nat.le_of_ble_eq_true rfl) ?_
  first | refine r_aload_n dJ10_ensureCapacityInternal_0 rfl ?_ | refine r_aload_nq dJ10_ensureCapacityInternal_0 rfl ?_ | refine r_aload_nN dJ10_ensureCapacityInternal_0 rfl ?_
  refine r_getfield 14 0 dJ10_ensureCapacityInternal_1 rfl (Nat.le_of_ble_eq_true rfl) (lkA q388) (Or.inl rfl) (Or.inl ha) (by rfl) ?_
  refine r_alenI _ (Nat.le_of_ble_eq_true rfl) dJ10_ensureCapacityInternal_4 (Or.inl hr) rfl ?_
  first | refine r_aload_n dJ10_ensureCapacityInternal_5 rfl ?_ | refine r_aload_nq dJ10_ensureCapacityInternal_5 rfl ?_ | refine r_aload_nN dJ10_ensureCapacityInternal_5 rfl ?_
  refine r_getfield 14 1 dJ10_ensureCapacityInternal_6 rfl (Nat.le_of_ble_eq_true rfl) (lkA q389) (Or.inl rfl) (Or.inl ha) (by rfl) ?_
  refine r_ishr dJ10_ensureCapacityInternal_9 ?_
  rw [shr0]
  refine r_istore_n dJ10_ensureCapacityInternal_10 (Nat.le_of_ble_eq_true rfl) ?_
  refine r_iload_n dJ10_ensureCapacityInternal_11 rfl ?_
  refine r_iload_n dJ10_ensureCapacityInternal_12 rfl ?_
  refine r_isub dJ10_ensureCapacityInternal_13 ?_
  refine r_if_le 38 dJ10_ensureCapacityInternal_14 rfl (fun c14 => ?_) (fun c14 => absurd c14 (by rw [Int32.le_iff_toInt_le, tI_sub, nIn (by omega), nIn (by omega)]; have h0 : (0 : Int32).toInt = 0 := rfl; rw [if_pos (by omega)]; omega))
  exact r_return dJ10_ensureCapacityInternal_38 rfl (by first | exact ⟨rfl, rfl⟩ | rfl)

set_option maxHeartbeats 4000000 in
set_option maxRecDepth 100000 in
theorem sp_cap1 {G : GG} {h : HP} {a r N : Nat} {m c : Int32} {g : Nat → Int32} (ha : h a = some (bO 14 [.ref r, .int 0, .int m, .int c])) (hr : h r = some (bI 1 N g)) {k : Nat} (hk : N < k) (hk2 : k ≤ 64) (hN : N ≤ 130) (hg : ∀ j, j < N → asc (g j)) : Ct G 3 301 M_J10_ensureCapacityInternal [.ref a, .int (nI k)] h (rQ (fun v h' => v = none ∧ ∃ q, h q = none ∧ h' = hu (hu h q (bI 1 (N + max (k - N) (N + 2)) (va_cpy g (fun _ => 0) 0 0 N))) a (bO 14 [.ref q, .int 0, .int m, .int c]))) := by
  refine ct_intro my_J10_ensureCapacityInternal (Nat.le_of_ble_eq_true rfl) ?_
  first | refine r_aload_n dJ10_ensureCapacityInternal_0 rfl ?_ | refine r_aload_nq dJ10_ensureCapacityInternal_0 rfl ?_ | refine r_aload_nN dJ10_ensureCapacityInternal_0 rfl ?_
  refine r_getfield 14 0 dJ10_ensureCapacityInternal_1 rfl (Nat.le_of_ble_eq_true rfl) (lkA q388) (Or.inl rfl) (Or.inl ha) (by rfl) ?_
  refine r_alenI _ (Nat.le_of_ble_eq_true rfl) dJ10_ensureCapacityInternal_4 (Or.inl hr) rfl ?_
  first | refine r_aload_n dJ10_ensureCapacityInternal_5 rfl ?_ | refine r_aload_nq dJ10_ensureCapacityInternal_5 rfl ?_ | refine r_aload_nN dJ10_ensureCapacityInternal_5 rfl ?_
  refine r_getfield 14 1 dJ10_ensureCapacityInternal_6 rfl (Nat.le_of_ble_eq_true rfl) (lkA q389) (Or.inl rfl) (Or.inl ha) (by rfl) ?_
  refine r_ishr dJ10_ensureCapacityInternal_9 ?_
  rw [shr0]
  refine r_istore_n dJ10_ensureCapacityInternal_10 (Nat.le_of_ble_eq_true rfl) ?_
  refine r_iload_n dJ10_ensureCapacityInternal_11 rfl ?_
  refine r_iload_n dJ10_ensureCapacityInternal_12 rfl ?_
  refine r_isub dJ10_ensureCapacityInternal_13 ?_
  refine r_if_le 38 dJ10_ensureCapacityInternal_14 rfl (fun c14 => absurd c14 (by rw [Int32.le_iff_toInt_le, tI_sub, nIn (by omega), nIn (by omega)]; have h0 : (0 : Int32).toInt = 0 := rfl; rw [if_pos (by omega)]; omega)) (fun c14 => ?_)
  first | refine r_aload_n dJ10_ensureCapacityInternal_17 rfl ?_ | refine r_aload_nq dJ10_ensureCapacityInternal_17 rfl ?_ | refine r_aload_nN dJ10_ensureCapacityInternal_17 rfl ?_
  first | refine r_aload_n dJ10_ensureCapacityInternal_18 rfl ?_ | refine r_aload_nq dJ10_ensureCapacityInternal_18 rfl ?_ | refine r_aload_nN dJ10_ensureCapacityInternal_18 rfl ?_
  refine r_getfield 14 0 dJ10_ensureCapacityInternal_19 rfl (Nat.le_of_ble_eq_true rfl) (lkA q388) (Or.inl rfl) (Or.inl ha) (by rfl) ?_
  first | refine r_aload_n dJ10_ensureCapacityInternal_22 rfl ?_ | refine r_aload_nq dJ10_ensureCapacityInternal_22 rfl ?_ | refine r_aload_nN dJ10_ensureCapacityInternal_22 rfl ?_
  refine r_iload_n dJ10_ensureCapacityInternal_23 rfl ?_
  refine r_invVP dJ10_ensureCapacityInternal_24 (sp_J10_newCapacity ha hr hN hk hk2) rfl mo_J10_newCapacity (Or.inl ha) rfl (lkA q675) (lkA q677) q676 (lkA q692) rfl (lkA q78) mp_J10_newCapacity (Nat.le_of_ble_eq_true rfl) (Nat.le_of_ble_eq_true rfl) (Nat.le_of_ble_eq_true rfl) (kr_e ?_) kx_e
  first | refine r_aload_n dJ10_ensureCapacityInternal_27 rfl ?_ | refine r_aload_nq dJ10_ensureCapacityInternal_27 rfl ?_ | refine r_aload_nN dJ10_ensureCapacityInternal_27 rfl ?_
  refine r_getfield 14 1 dJ10_ensureCapacityInternal_28 rfl (Nat.le_of_ble_eq_true rfl) (lkA q389) (Or.inl rfl) (Or.inl ha) (by rfl) ?_
  refine r_ishl dJ10_ensureCapacityInternal_31 ?_
  rw [shl0]
  refine r_invS dJ10_ensureCapacityInternal_32 (sp_J8_copyOf_4 hr (by omega) (by omega) hg) rfl mo_J8_copyOf_4 (lkA q681) (lkA q682) (lkA q75) mp_J8_copyOf_4 (Nat.le_of_ble_eq_true rfl) (Nat.le_of_ble_eq_true rfl) (Nat.le_of_ble_eq_true rfl) (kr_r (fun v9 h9 p9 => ?_)) kx_r
  obtain ⟨q, rfl, hq, rfl⟩ := p9
  refine r_put 14 0 dJ10_ensureCapacityInternal_35 rfl (Nat.le_of_ble_eq_true rfl) (lkA q388) (Or.inl rfl) rfl (hu_o hq ha) (by dsimp only [List.set]) (Nat.le_of_ble_eq_true rfl) rfl rfl (by first | exact hu_hu | exact rfl) ?_
  exact r_return dJ10_ensureCapacityInternal_38 rfl ⟨rfl, q, hq, rfl⟩

theorem SB_w {h : HP} {a r N : Nat} {l : List Int32} {m : Int32} {g : Nat → Int32} (ha : h a = some (bO 14 [.ref r, .int 0, .int m, .int (nI l.length)])) (hr : h r = some (bI 1 N g)) (hl : l.length ≤ N) (hN : N ≤ 130) (hg : ∀ j, j < N → asc (g j)) (hv : ∀ j, j < l.length → g j = l.getD j 0) : SB h a r N l := ⟨m, g, ha, hr, hl, hN, hg, hv⟩
/-- room for k signs -/
theorem sp_cap {G : GG} {h : HP} {a r N : Nat} {l : List Int32} (hS : SB h a r N l) (k : Nat) (hk : k ≤ 64) : Ct G 3 301 M_J10_ensureCapacityInternal [.ref a, .int (nI k)] h (rQ (fun v h' => v = none ∧ ∃ r' N', SB h' a r' N' l ∧ k ≤ N' ∧ (r' = r ∨ h r' = none) ∧ ∀ q b, q ≠ a → h q = some b → h' q = some b)) := by
  obtain ⟨m, g, ha, hr, hl, hN, hg, hv⟩ := hS
  by_cases e : k ≤ N
  · refine (sp_cap0 ha hr e hN).mono (fun u h' hq => ?_)
    rcases u with v | q
    · obtain ⟨rfl, rfl⟩ := hq
      exact ⟨rfl, r, N, ⟨m, g, ha, hr, hl, hN, hg, hv⟩, e, Or.inl rfl, fun q b _ hb => hb⟩
    · exact hq.elim
  · refine (sp_cap1 ha hr (Nat.lt_of_not_le e) hk hN hg).mono (fun u h' hq => ?_)
    rcases u with v | q
    · obtain ⟨rfl, q, hq, rfl⟩ := hq
      have e1 : q ≠ a := Ne.symm (ne_o hq ha)
      refine ⟨rfl, q, N + max (k - N) (N + 2), ⟨m, va_cpy g (fun _ => 0) 0 0 N, hu_s, (hu_n e1).trans hu_s, by omega, by omega, fun j hj => ?_, fun j hj => ?_⟩, by omega, Or.inr hq, fun x b hx hb => ?_⟩
      · show asc (if 0 ≤ j ∧ j < 0 + N then g (0 + (j - 0)) else 0)
        by_cases e2 : 0 ≤ j ∧ j < 0 + N
        · rw [if_pos e2]
          exact hg _ (by omega)
        · rw [if_neg e2]
          exact asc_0
      · show (if 0 ≤ j ∧ j < 0 + N then g (0 + (j - 0)) else 0) = _
        rw [if_pos (by omega), Nat.zero_add, Nat.sub_zero]
        exact hv j hj
      · rw [hu_n hx]
        exact hu_o hq hb
    · exact hq.elim
