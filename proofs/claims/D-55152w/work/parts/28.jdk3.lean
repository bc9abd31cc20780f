set_option maxRecDepth 100000
theorem r_copyL {G : GG} {d : Nat} {M : Mt} {pc : Nat} {L : List (Nat × Value)} {st : List Value} {h : HP} {c : Nat} {Q : Oc → HP → Prop} {ix : Nat} {a0 a n0 n1 : Nat} {f g : Nat → Int64} {sp dp n : Int32} (sp' dp' n' : Nat) (hd : decode (mB M) pc = .ok (.invokestatic ix, 3)) (hw : lk (.methodLink (mN M).cls ix arraycopyName)) (hna : lk (.native arraycopyName)) (hs : lk (.static arraycopyName)) (hini : lk (.initialized "java/lang/System")) (ha0 : Has G h a0 (bL n0 f)) (ha : h a = some (bL n1 g)) (h1 : sp.toInt = (sp' : Int)) (h2 : dp.toInt = (dp' : Int)) (h3 : n.toInt = (n' : Int)) (h4 : sp' + n' ≤ n0) (h5 : dp' + n' ≤ n1) (hdd : 1 ≤ d) (hcat : (st.map fun v => v.category).sum ≤ 8) (kk : V G d M (pc + 3) L st (hu h a (bL n1 (va_cpy f g sp' dp' n'))) c Q) : V G d M pc L (.int n :: .int dp :: .ref a :: .int sp :: .ref a0 :: st) h c Q := by
  intro hG p e R s m args below meth cd Z hC hF H locs kc nn ls hR hl hkc hn hls T hT X
  have hW := gW hC
  have hfr := hC.2.2.2.2.2.2.2.2.2
  obtain ⟨cs, c1, c2, c3, c4, c5, c6⟩ := has_lng hG hW hR ha0
  obtain ⟨hge, hok, hat⟩ := hR.2 a _ ha
  have hat : H[a]? = some (arrV (gA G 2) n1 (fun j => .long (g j))) := hat
  obtain ⟨-, k0, hk0, cm0, hkk0⟩ := c4
  obtain ⟨-, k1, hk1, cm1, hkk1⟩ := gArr hG hW (t := 2) (by decide) n1 (fun j => .long (g j))
  have z1 : sp.toNatClampNeg = sp' := by show sp.toInt.toNat = sp'; omega
  have z2 : dp.toNatClampNeg = dp' := by show dp.toInt.toNat = dp'; omega
  have z3 : n.toNatClampNeg = n' := by show n.toInt.toNat = n'; omega
  have neg : ∀ (z : Int32) (q : Nat), z.toInt = (q : Int) → ¬ z < 0 := fun z q hq h => by
    have h9 := Int32.lt_iff_toInt_lt.mp h
    have h0 : (0 : Int32).toInt = 0 := rfl
    omega
  have hrk : refKind (aT 2) = false := rfl
  have elem : ∀ i : Nat, i < n' → cs.slots.getD (sp' + i) .null = .long (f (sp' + i)) := fun i hi => by
    rw [Array.getD_eq_getD_getElem?, c6 _ (by omega)]
    rfl
  obtain ⟨vm', X', step⟩ := X.arraycopy hC.1 (gO hC) (wd hG hW hw args) (wd hG hW hna args) (wd hG hW hs args) (wd hG hW hini args) (src := a0) (dst := a) (cs := cs) (cd := arrV (gA G 2) n1 (fun j => .long (g j))) (srcPos := sp) (destPos := dp) (n := n) (by rw [hT]; exact c1) (by rw [hT]; exact hat)
    (fun q h => by rw [h] at c3; cases c3) (fun _ h => by cases h) c2 (fun h => by cases h) hk0 hk1 hkk0 hkk1 (by simp [hrk]; exact ⟨rfl, fun _ => rfl⟩) (neg sp sp' h1) (neg dp dp' h2) (neg n n' h3)
    (by rw [h1, h3, c5]; omega)
    (by rw [h2, h3, arrV_size]; omega)
    (fun vm₁ _ i hi => by
      rw [z1]
      rw [z3] at hi
      rw [elem i hi]
      refine ⟨?_, trivial⟩
      rfl)
    (g := F0 m pc ls (.int n :: .int dp :: .ref a :: .int sp :: .ref a0 :: st)) rfl (hls.1.trans hC.2.2.2.2.1.symm) (rest := st) rfl (by rw [hC.2.1]; exact hd) (by omega) (by show 2 * 0 + _ + (nativeFrameWords "java/lang/System" "arraycopy" 5 + 11) ≤ R.locals; have : nativeFrameWords "java/lang/System" "arraycopy" 5 ≤ 200 := Nat.le_of_ble_eq_true rfl; omega)
  have e1 : copied cs (arrV (gA G 2) n1 (fun j => .long (g j))) sp dp n = arrV (gA G 2) n1 (fun j => .long (va_cpy f g sp' dp' n' j)) := by
    show (arrV (gA G 2) n1 (fun j => .long (g j))).storeRun dp.toNatClampNeg (cs.stretch sp.toNatClampNeg n.toNatClampNeg) = _
    rw [z1, z2, z3]
    have e : cs.stretch sp' n' = (List.range n').map (fun i => Value.long (f (sp' + i))) := by
      unfold Cell.stretch
      apply List.map_congr_left
      intro i hi
      exact elem i (List.mem_range.mp hi)
    rw [e, Cell.storeRun, va_pairs]
    congr 1
    funext q
    simp only [va_cpy, List.length_map, List.length_range, Nat.add_zero]
    by_cases hq : dp' ≤ q ∧ q < dp' + n'
    · rw [if_pos hq, if_pos hq, List.getD_eq_getElem?_getD, List.getElem?_map, List.getElem?_range (by omega)]
      rfl
    · rw [if_neg hq, if_neg hq]
  rw [e1] at X' step
  have hl9 : a < H.size := (Array.getElem?_eq_some_iff.mp hat).1
  have hheap : ((T.setVm vm').setCell a (arrV (gA G 2) n1 (fun j => .long (va_cpy f g sp' dp' n' j)))).heap = H.setIfInBounds a (arrV (gA G 2) n1 (fun j => .long (va_cpy f g sp' dp' n' j))) := by rw [← hT]; rfl
  have oq : ∀ q : Nat, q ≠ a → (H.setIfInBounds a (arrV (gA G 2) n1 (fun j => .long (va_cpy f g sp' dp' n' j))))[q]? = H[q]? := fun q hq => by simp [Array.getElem?_setIfInBounds, Ne.symm hq]
  have hR' : Rep G (hu h a (bL n1 (va_cpy f g sp' dp' n'))) (H.setIfInBounds a (arrV (gA G 2) n1 (fun j => .long (va_cpy f g sp' dp' n' j)))) := hR.put ha (show (H.setIfInBounds a _)[a]? = some (arrV (gA G 2) n1 (fun j => .long (va_cpy f g sp' dp' n' j))) by simp [Array.getElem?_setIfInBounds, hl9]) trivial (by simp) oq
  obtain ⟨t, a1, b1⟩ := kk hG p e R s m args below meth cd Z hC hF _ _ kc nn ls hR' (fun q hq => by
      rcases List.mem_append.mp hq with h | h
      · exact hl q h
      · obtain ⟨z, -, hz⟩ := List.mem_map.mp h
        rw [← hz]
        exact hge) hkc hn hls _ hheap X'
  exact ⟨t, step t a1, b1⟩

theorem i8 {x : Int32} (h0 : 0 ≤ x.toInt) (h7 : x.toInt ≤ 7) : x = 0 ∨ x = 1 ∨ x = 2 ∨ x = 3 ∨ x = 4 ∨ x = 5 ∨ x = 6 ∨ x = 7 := by
  simp only [i32_eq, Int32.reduceToInt]
  omega
theorem i4 {x : Int32} (h0 : 0 ≤ x.toInt) (h7 : x.toInt ≤ 3) : x = 0 ∨ x = 1 ∨ x = 2 ∨ x = 3 := by
  simp only [i32_eq, Int32.reduceToInt]
  omega
def nzY (x : Int32) : Int32 := (x ^^^ -1) &&& (x - 1)
def nzI (x : Int32) : Int32 := if 0 < nzY x then (1 : Int32) + (((nzY x).toUInt32 >>> ((1 : Int32).toUInt32 &&& Int32.toUInt32 31)).toInt32) else nzY x &&& 32
theorem nzY_3 {x : Int32} (h0 : 0 ≤ x.toInt) (h7 : x.toInt ≤ 7) : (nzY x).toInt ≤ 3 := by
  rcases i8 h0 h7 with rfl | rfl | rfl | rfl | rfl | rfl | rfl | rfl <;> decide
abbrev bBs (wa : Nat) (w : Int32) : Bd := bO 12 [.ref wa, .int (if w = 0 then 0 else 1), .int 1]
abbrev fWd (w : Int32) : Nat → Int64 := fun j => if j = 0 then w.toInt64 else 0
abbrev bWd (w : Int32) : Bd := bL 1 (fWd w)
theorem fWd_0 : (fun _ : Nat => (0 : Int64)) = fWd 0 := by
  funext j
  by_cases e : j = 0
  · simp [fWd, e]
  · simp [fWd, e]
theorem fWd_u {w v : Int32} {x : Int64} (e : x = v.toInt64) : vp_updL (fWd w) 0 x = fWd v := by
  subst e
  funext j
  by_cases e : j = 0
  · simp [fWd, vp_updL, e]
  · simp [fWd, vp_updL, e]
theorem fWd_c {w v : Int32} : va_cpy (fWd w) (fWd v) 0 0 1 = fWd w := by
  funext j
  by_cases e : j = 0
  · subst e
    rfl
  · have : ¬ j < 1 := by omega
    simp [fWd, va_cpy, e]
theorem hu_same {h : HP} {a : Nat} {b : Bd} (e : h a = some b) : h = hu h a b := by
  funext q
  by_cases e2 : q = a
  · subst e2; rw [hu_s, e]
  · rw [hu_n e2]
theorem wz_0 {w : Int32} (e : (if w = 0 then (0 : Int32) else 1) ≤ 0) : w = 0 := by
  by_cases e2 : w = 0
  · exact e2
  · rw [if_neg e2] at e; exact absurd e (by decide)
theorem wz_1 {w : Int32} (e : (1 : Int32) ≤ (if w = 0 then (0 : Int32) else 1)) : (if w = 0 then (0 : Int32) else 1) = 1 := by
  by_cases e2 : w = 0
  · rw [if_pos e2] at e; exact absurd e (by decide)
  · rw [if_neg e2]
theorem wz_n {w : Int32} (e : ¬ w = 0) : (if w = 0 then (0 : Int32) else 1) = 1 := if_neg e
theorem wz_p {w : Int32} (e : ¬ (if w = 0 then (0 : Int32) else 1) ≤ 0) : ¬ w = 0 := fun e2 => by
  rw [if_pos e2] at e
  exact e (by decide)
/-- the bits of w from k on -/
def nbM (w k : Int32) : Int64 := w.toInt64 &&& ((-1 : Int64) <<< (k.toInt64 &&& 63))
def nxb (w k : Int32) : Int32 := if w = 0 then -1 else if lg_cmp (nbM w k) 0 = 0 then -1 else 0 * 64 + nzI (nbM w k).toInt32
theorem nbM_f {w k : Int32} (h0 : 0 ≤ w.toInt) (h7 : w.toInt ≤ 7) (k0 : 0 ≤ k.toInt) (k3 : k.toInt ≤ 3) : ¬ lg_cmp (nbM w k) 0 = 0 → ¬ (nbM w k).toInt32 = 0 ∧ 0 ≤ (nbM w k).toInt32.toInt ∧ (nbM w k).toInt32.toInt ≤ 7 := by
  rcases i8 h0 h7 with rfl | rfl | rfl | rfl | rfl | rfl | rfl | rfl <;> rcases i4 k0 k3 with rfl | rfl | rfl | rfl <;> decide
theorem wix_0 {k : Int32} (k0 : 0 ≤ k.toInt) (k3 : k.toInt ≤ 3) : k >>> ((6 : Int32) &&& 31) = 0 := by
  rcases i4 k0 k3 with rfl | rfl | rfl | rfl <;> decide
theorem bget_0 {k : Int32} (k0 : 0 ≤ k.toInt) (k3 : k.toInt ≤ 3) : (0 : Int32) >>> (k &&& 31) &&& 1 = 0 := by
  rcases i4 k0 k3 with rfl | rfl | rfl | rfl <;> decide
theorem bget_c {w k : Int32} (h0 : 0 ≤ w.toInt) (h7 : w.toInt ≤ 7) (k0 : 0 ≤ k.toInt) (k3 : k.toInt ≤ 3) : lg_cmp (w.toInt64 &&& ((1 : Int64) <<< (k.toInt64 &&& 63))) 0 = 0 ↔ w >>> (k &&& 31) &&& 1 = 0 := by
  rcases i8 h0 h7 with rfl | rfl | rfl | rfl | rfl | rfl | rfl | rfl <;> rcases i4 k0 k3 with rfl | rfl | rfl | rfl <;> decide
def bset (w k : Int32) : Int32 := w ||| (1 : Int32) <<< (k &&& 31)
theorem bset_w {w k : Int32} (h0 : 0 ≤ w.toInt) (h7 : w.toInt ≤ 7) (k0 : 0 ≤ k.toInt) (k3 : k.toInt ≤ 2) : w.toInt64 ||| ((1 : Int64) <<< (k.toInt64 &&& 63)) = (bset w k).toInt64 ∧ ¬ bset w k = 0 ∧ 0 ≤ (bset w k).toInt ∧ (bset w k).toInt ≤ 7 := by
  rcases i8 h0 h7 with rfl | rfl | rfl | rfl | rfl | rfl | rfl | rfl <;> rcases i4 k0 (by omega) with rfl | rfl | rfl | rfl <;> first | decide | (exfalso; revert k3; decide)
set_option maxHeartbeats 4000000 in
set_option maxRecDepth 100000 in
theorem sp_J27_numberOfTrailingZeros {G : GG} {h : HP} {x : Int32} (h0 : 0 ≤ x.toInt) (h7 : x.toInt ≤ 7) : Ct G 0 0 M_J27_numberOfTrailingZeros [.int x] h (eQ (some (.int (nzI x))) h) := by
  refine ct_intro my_J27_numberOfTrailingZeros (Nat.le_of_ble_eq_true rfl) ?_
  refine r_iload_n dJ27_numberOfTrailingZeros_0 rfl ?_
  refine r_iconst (v := (-1)) dJ27_numberOfTrailingZeros_1 rfl ?_
  refine r_ixor dJ27_numberOfTrailingZeros_2 ?_
  refine r_iload_n dJ27_numberOfTrailingZeros_3 rfl ?_
  refine r_iconst (v := 1) dJ27_numberOfTrailingZeros_4 rfl ?_
  refine r_isub dJ27_numberOfTrailingZeros_5 ?_
  refine r_iand dJ27_numberOfTrailingZeros_6 ?_
  refine r_istore_n dJ27_numberOfTrailingZeros_7 (Nat.le_of_ble_eq_true rfl) ?_
  refine r_iload_n dJ27_numberOfTrailingZeros_8 rfl ?_
  refine r_if_gt 17 dJ27_numberOfTrailingZeros_9 rfl (fun c9 => ?_) (fun c9 => ?_)
  · refine r_iconst (v := 1) dJ27_numberOfTrailingZeros_17 rfl ?_
    refine r_istore_n dJ27_numberOfTrailingZeros_18 (Nat.le_of_ble_eq_true rfl) ?_
    refine r_iload_n dJ27_numberOfTrailingZeros_19 rfl ?_
    refine r_ldcw dJ27_numberOfTrailingZeros_20 (lkA q1245) ?_
    refine r_icmp_le 34 dJ27_numberOfTrailingZeros_23 rfl (fun c23 => ?_) (fun c23 => absurd c23 (by intro hq; apply hq; rw [Int32.le_iff_toInt_le]; have h3 := nzY_3 h0 h7; show (nzY x).toInt ≤ _; simp only [Int32.reduceToInt]; omega))
    refine r_iload_n dJ27_numberOfTrailingZeros_34 rfl ?_
    refine r_sipush (v := 256) dJ27_numberOfTrailingZeros_35 rfl ?_
    refine r_icmp_le 49 dJ27_numberOfTrailingZeros_38 rfl (fun c38 => ?_) (fun c38 => absurd c38 (by intro hq; apply hq; rw [Int32.le_iff_toInt_le]; have h3 := nzY_3 h0 h7; show (nzY x).toInt ≤ _; simp only [Int32.reduceToInt]; omega))
    refine r_iload_n dJ27_numberOfTrailingZeros_49 rfl ?_
    refine r_bipush (v := 16) dJ27_numberOfTrailingZeros_50 rfl ?_
    refine r_icmp_le 62 dJ27_numberOfTrailingZeros_52 rfl (fun c52 => ?_) (fun c52 => absurd c52 (by intro hq; apply hq; rw [Int32.le_iff_toInt_le]; have h3 := nzY_3 h0 h7; show (nzY x).toInt ≤ _; simp only [Int32.reduceToInt]; omega))
    refine r_iload_n dJ27_numberOfTrailingZeros_62 rfl ?_
    refine r_iconst (v := 4) dJ27_numberOfTrailingZeros_63 rfl ?_
    refine r_icmp_le 74 dJ27_numberOfTrailingZeros_64 rfl (fun c64 => ?_) (fun c64 => absurd c64 (by intro hq; apply hq; rw [Int32.le_iff_toInt_le]; have h3 := nzY_3 h0 h7; show (nzY x).toInt ≤ _; simp only [Int32.reduceToInt]; omega))
    refine r_iload_n dJ27_numberOfTrailingZeros_74 rfl ?_
    refine r_iload_n dJ27_numberOfTrailingZeros_75 rfl ?_
    refine r_iconst (v := 1) dJ27_numberOfTrailingZeros_76 rfl ?_
    refine r_iushr dJ27_numberOfTrailingZeros_77 ?_
    refine r_iadd dJ27_numberOfTrailingZeros_78 ?_
    exact r_ireturn dJ27_numberOfTrailingZeros_79 rfl (by first | rfl | exact bi_nar) ⟨by unfold nzI nzY; rw [if_pos c9], rfl⟩
  · refine r_iload_n dJ27_numberOfTrailingZeros_12 rfl ?_
    refine r_bipush (v := 32) dJ27_numberOfTrailingZeros_13 rfl ?_
    refine r_iand dJ27_numberOfTrailingZeros_15 ?_
    exact r_ireturn dJ27_numberOfTrailingZeros_16 rfl (by first | rfl | exact bi_nar) ⟨by unfold nzI nzY; rw [if_neg c9], rfl⟩

set_option maxHeartbeats 4000000 in
set_option maxRecDepth 100000 in
theorem sp_J26_numberOfTrailingZeros {G : GG} {h : HP} {x : Int64} (hz : ¬ x.toInt32 = 0) (h0 : 0 ≤ x.toInt32.toInt) (h7 : x.toInt32.toInt ≤ 7) : Ct G 1 0 M_J26_numberOfTrailingZeros [.long x] h (eQ (some (.int (nzI x.toInt32))) h) := by
  refine ct_intro my_J26_numberOfTrailingZeros (Nat.le_of_ble_eq_true rfl) ?_
  refine r_lload_n dJ26_numberOfTrailingZeros_0 rfl ?_
  refine r_l2i dJ26_numberOfTrailingZeros_1 ?_
  refine r_istore_n dJ26_numberOfTrailingZeros_2 (Nat.le_of_ble_eq_true rfl) ?_
  refine r_iload_n dJ26_numberOfTrailingZeros_3 rfl ?_
  refine r_if_ne 21 dJ26_numberOfTrailingZeros_4 rfl (fun c4 => ?_) (fun c4 => absurd c4 hz)
  refine r_iload_n dJ26_numberOfTrailingZeros_21 rfl ?_
  refine r_invS dJ26_numberOfTrailingZeros_22 (sp_J27_numberOfTrailingZeros h0 h7) rfl mo_J27_numberOfTrailingZeros (lkA q1242) (lkA q1243) (lkA q101) mp_J27_numberOfTrailingZeros (Nat.le_of_ble_eq_true rfl) (Nat.le_of_ble_eq_true rfl) (Nat.le_of_ble_eq_true rfl) (kr_e ?_) kx_e
  exact r_ireturn dJ26_numberOfTrailingZeros_25 rfl (by first | rfl | exact bi_nar) (by first | exact ⟨rfl, rfl⟩ | rfl)

set_option maxHeartbeats 4000000 in
set_option maxRecDepth 100000 in
theorem sp_J5_wordIndex {G : GG} {h : HP} {k : Int32} (k0 : 0 ≤ k.toInt) (k3 : k.toInt ≤ 3) : Ct G 0 0 M_J5_wordIndex [.int k] h (eQ (some (.int 0)) h) := by
  refine ct_intro my_J5_wordIndex (Nat.le_of_ble_eq_true rfl) ?_
  refine r_iload_n dJ5_wordIndex_0 rfl ?_
  refine r_bipush (v := 6) dJ5_wordIndex_1 rfl ?_
  refine r_ishr dJ5_wordIndex_3 ?_
  exact r_ireturn dJ5_wordIndex_4 rfl (by first | rfl | exact bi_nar) ⟨by rw [wix_0 k0 k3], rfl⟩

set_option maxHeartbeats 4000000 in
set_option maxRecDepth 100000 in
theorem sp_J5_checkInvariants {G : GG} {h : HP} (hK : KS G) {a : Nat} : Ct G 0 0 M_J5_checkInvariants [.ref a] h (eQ none h) := by
  refine ct_intro my_J5_checkInvariants (Nat.le_of_ble_eq_true rfl) ?_
  refine r_getstatic (C := "java/util/BitSet") dJ5_checkInvariants_0 (lkA q485) (Or.inl rfl) hK.2.1 ?_
  refine r_if_ne 37 dJ5_checkInvariants_3 rfl (fun c3 => ?_) (fun c3 => absurd c3 (by decide))
  refine r_getstatic (C := "java/util/BitSet") dJ5_checkInvariants_37 (lkA q485) (Or.inl rfl) hK.2.1 ?_
  refine r_if_ne 70 dJ5_checkInvariants_40 rfl (fun c40 => ?_) (fun c40 => absurd c40 (by decide))
  refine r_getstatic (C := "java/util/BitSet") dJ5_checkInvariants_70 (lkA q485) (Or.inl rfl) hK.2.1 ?_
  refine r_if_ne 110 dJ5_checkInvariants_73 rfl (fun c73 => ?_) (fun c73 => absurd c73 (by decide))
  exact r_return dJ5_checkInvariants_110 rfl (by first | exact ⟨rfl, rfl⟩ | rfl)

set_option maxHeartbeats 4000000 in
set_option maxRecDepth 100000 in
theorem sp_J5_ensureCapacity {G : GG} {h : HP} {a wa : Nat} {f : Nat → Int64} {x1 x2 : Value} (ha : h a = some (bO 12 [.ref wa, x1, x2])) (hwa : h wa = some (bL 1 f)) : Ct G 0 0 M_J5_ensureCapacity [.ref a, .int 1] h (eQ none h) := by
  refine ct_intro my_J5_ensureCapacity (Nat.le_of_ble_eq_true rfl) ?_
  first | refine r_aload_n dJ5_ensureCapacity_0 rfl ?_ | refine r_aload_nq dJ5_ensureCapacity_0 rfl ?_ | refine r_aload_nN dJ5_ensureCapacity_0 rfl ?_
  refine r_getfield 12 0 dJ5_ensureCapacity_1 rfl (Nat.le_of_ble_eq_true rfl) (lkA q195) (Or.inl rfl) (by first | exact Or.inl (by assumption) | assumption | (refine Or.inl ?_; repeat' first | assumption | exact hu_s | refine hu_o (by assumption) ?_ | refine (hu_n (by first | assumption | exact Ne.symm (by assumption) | exact ne_o (by assumption) (by assumption) | exact Ne.symm (ne_o (by assumption) (by assumption)))).trans ?_)) (by rfl) ?_
  refine r_alenL _  dJ5_ensureCapacity_4 (by first | exact Or.inl (by assumption) | assumption | (refine Or.inl ?_; repeat' first | assumption | exact hu_s | refine hu_o (by assumption) ?_ | refine (hu_n (by first | assumption | exact Ne.symm (by assumption) | exact ne_o (by assumption) (by assumption) | exact Ne.symm (ne_o (by assumption) (by assumption)))).trans ?_)) rfl ?_
  refine r_iload_n dJ5_ensureCapacity_5 rfl ?_
  refine r_icmp_ge 38 dJ5_ensureCapacity_6 rfl (fun c6 => ?_) (fun c6 => absurd c6 (by decide))
  exact r_return dJ5_ensureCapacity_38 rfl (by first | exact ⟨rfl, rfl⟩ | rfl)

set_option maxHeartbeats 4000000 in
set_option maxRecDepth 100000 in
theorem sp_J5_initWords {G : GG} {h : HP} {a : Nat} {x0 x1 x2 : Value} (ha : h a = some (bO 12 [x0, x1, x2])) : Ct G 1 2 M_J5_initWords [.ref a, .int 3] h (rQ (fun v h' => v = none ∧ ∃ q, h q = none ∧ h' = hu (hu h q (bL 1 (fun _ => 0))) a (bO 12 [.ref q, x1, x2]))) := by
  refine ct_intro my_J5_initWords (Nat.le_of_ble_eq_true rfl) ?_
  first | refine r_aload_n dJ5_initWords_0 rfl ?_ | refine r_aload_nq dJ5_initWords_0 rfl ?_ | refine r_aload_nN dJ5_initWords_0 rfl ?_
  refine r_iload_n dJ5_initWords_1 rfl ?_
  refine r_iconst (v := 1) dJ5_initWords_2 rfl ?_
  refine r_isub dJ5_initWords_3 ?_
  refine r_invS dJ5_initWords_4 (sp_J5_wordIndex (by decide) (by decide)) rfl mo_J5_wordIndex (lkA q192) (lkA q193) (lkA q72) mp_J5_wordIndex (Nat.le_of_ble_eq_true rfl) (Nat.le_of_ble_eq_true rfl) (Nat.le_of_ble_eq_true rfl) (kr_e ?_) kx_e
  refine r_iconst (v := 1) dJ5_initWords_7 rfl ?_
  refine r_iadd dJ5_initWords_8 ?_
  refine r_newaL 1 dJ5_initWords_9 (lkA q206) rfl (Nat.le_of_ble_eq_true rfl) (Nat.le_of_ble_eq_true rfl) (fun q9 hq9 => ?_)
  refine r_put 12 0 dJ5_initWords_11 rfl (Nat.le_of_ble_eq_true rfl) (lkA q195) (Or.inl rfl) rfl (by repeat' first | assumption | exact hu_s | refine hu_o (by assumption) ?_ | refine (hu_n (by first | assumption | exact Ne.symm (by assumption) | exact ne_o (by assumption) (by assumption) | exact Ne.symm (ne_o (by assumption) (by assumption)))).trans ?_) (by dsimp only [List.set]) (Nat.le_of_ble_eq_true rfl) rfl rfl (by first | exact hu_hu | exact rfl) ?_
  exact r_return dJ5_initWords_14 rfl ⟨rfl, q9, hq9, rfl⟩

set_option maxHeartbeats 4000000 in
set_option maxRecDepth 100000 in
theorem sp_J5_init {G : GG} {h : HP} {a : Nat} {x0 : Value} {y z : Int32} (ha : h a = some (bO 12 [x0, .int y, .int z])) : Ct G 2 2 M_J5_init [.ref a, .int 3] h (rQ (fun v h' => v = none ∧ ∃ q, h q = none ∧ h' = hu (hu h q (bWd 0)) a (bBs q 0))) := by
  refine ct_intro my_J5_init (Nat.le_of_ble_eq_true rfl) ?_
  first | refine r_aload_n dJ5_init_0 rfl ?_ | refine r_aload_nq dJ5_init_0 rfl ?_ | refine r_aload_nN dJ5_init_0 rfl ?_
  refine r_objinit (w1 := .tt) dJ5_init_1 (lkA q187) (lkA q112) (lkA q113) (Nat.le_of_ble_eq_true rfl) (Nat.le_of_ble_eq_true rfl) ?_
  first | refine r_aload_n dJ5_init_4 rfl ?_ | refine r_aload_nq dJ5_init_4 rfl ?_ | refine r_aload_nN dJ5_init_4 rfl ?_
  refine r_iconst (v := 0) dJ5_init_5 rfl ?_
  refine r_put 12 1 dJ5_init_6 rfl (Nat.le_of_ble_eq_true rfl) (lkA q196) (Or.inl rfl) rfl (by repeat' first | assumption | exact hu_s | refine hu_o (by assumption) ?_ | refine (hu_n (by first | assumption | exact Ne.symm (by assumption) | exact ne_o (by assumption) (by assumption) | exact Ne.symm (ne_o (by assumption) (by assumption)))).trans ?_) (by dsimp only [List.set]) (Nat.le_of_ble_eq_true rfl) rfl rfl (by first | exact hu_hu | exact rfl) ?_
  first | refine r_aload_n dJ5_init_9 rfl ?_ | refine r_aload_nq dJ5_init_9 rfl ?_ | refine r_aload_nN dJ5_init_9 rfl ?_
  refine r_iconst (v := 0) dJ5_init_10 rfl ?_
  refine r_put 12 2 dJ5_init_11 rfl (Nat.le_of_ble_eq_true rfl) (lkA q197) (Or.inl rfl) rfl (by repeat' first | assumption | exact hu_s | refine hu_o (by assumption) ?_ | refine (hu_n (by first | assumption | exact Ne.symm (by assumption) | exact ne_o (by assumption) (by assumption) | exact Ne.symm (ne_o (by assumption) (by assumption)))).trans ?_) (by dsimp only [List.set]) (Nat.le_of_ble_eq_true rfl) rfl rfl (by first | exact hu_hu | exact rfl) ?_
  refine r_iload_n dJ5_init_14 rfl ?_
  refine r_if_ge 45 dJ5_init_15 rfl (fun c15 => ?_) (fun c15 => absurd c15 (by decide))
  first | refine r_aload_n dJ5_init_45 rfl ?_ | refine r_aload_nq dJ5_init_45 rfl ?_ | refine r_aload_nN dJ5_init_45 rfl ?_
  refine r_iload_n dJ5_init_46 rfl ?_
  refine r_invV dJ5_init_47 (sp_J5_initWords hu_s) rfl mo_J5_initWords (by first | exact Or.inl (by assumption) | assumption | (refine Or.inl ?_; repeat' first | assumption | exact hu_s | refine hu_o (by assumption) ?_ | refine (hu_n (by first | assumption | exact Ne.symm (by assumption) | exact ne_o (by assumption) (by assumption) | exact Ne.symm (ne_o (by assumption) (by assumption)))).trans ?_)) rfl (lkA q188) (lkA q190) (lkA qs0) rfl (lkA q72) mp_J5_initWords (Nat.le_of_ble_eq_true rfl) (Nat.le_of_ble_eq_true rfl) (Nat.le_of_ble_eq_true rfl) (kr_r (fun v9 h9 p9 => ?_)) kx_r
  obtain ⟨rfl, q, hq, rfl⟩ := p9
  first | refine r_aload_n dJ5_init_50 rfl ?_ | refine r_aload_nq dJ5_init_50 rfl ?_ | refine r_aload_nN dJ5_init_50 rfl ?_
  refine r_iconst (v := 1) dJ5_init_51 rfl ?_
  refine r_put 12 2 dJ5_init_52 rfl (Nat.le_of_ble_eq_true rfl) (lkA q197) (Or.inl rfl) rfl (by repeat' first | assumption | exact hu_s | refine hu_o (by assumption) ?_ | refine (hu_n (by first | assumption | exact Ne.symm (by assumption) | exact ne_o (by assumption) (by assumption) | exact Ne.symm (ne_o (by assumption) (by assumption)))).trans ?_) (by dsimp only [List.set]) (Nat.le_of_ble_eq_true rfl) rfl rfl (by first | exact hu_hu | exact rfl) ?_
  exact r_return dJ5_init_55 rfl ⟨rfl, q, (ov_none_hu hq).2, by rw [hu_c (Ne.symm (ov_none_hu hq).1)]; rw [fWd_0]; simp only [hu_hu]; rfl⟩

set_option maxHeartbeats 4000000 in
set_option maxRecDepth 100000 in
theorem sp_J5_get {G : GG} {h : HP} (hK : KS G) {a wa : Nat} {w : Int32} {k : Int32} (ha : h a = some (bBs wa w)) (hwa : h wa = some (bWd w)) (h0 : 0 ≤ w.toInt) (h7 : w.toInt ≤ 7) (k0 : 0 ≤ k.toInt) (k3 : k.toInt ≤ 2) : Ct G 1 0 M_J5_get [.ref a, .int k] h (eQ (some (.int (if w >>> (k &&& 31) &&& 1 = 0 then 0 else 1))) h) := by
  refine ct_intro my_J5_get (Nat.le_of_ble_eq_true rfl) ?_
  have k4 : k.toInt ≤ 3 := by omega
  refine r_iload_n dJ5_get_0 rfl ?_
  refine r_if_ge 31 dJ5_get_1 rfl (fun c1 => ?_) (fun c1 => absurd c1 (by intro hq; apply hq; rw [Int32.le_iff_toInt_le]; exact k0))
  first | refine r_aload_n dJ5_get_31 rfl ?_ | refine r_aload_nq dJ5_get_31 rfl ?_ | refine r_aload_nN dJ5_get_31 rfl ?_
  refine r_invV dJ5_get_32 (sp_J5_checkInvariants hK) rfl mo_J5_checkInvariants (by first | exact Or.inl (by assumption) | assumption | (refine Or.inl ?_; repeat' first | assumption | exact hu_s | refine hu_o (by assumption) ?_ | refine (hu_n (by first | assumption | exact Ne.symm (by assumption) | exact ne_o (by assumption) (by assumption) | exact Ne.symm (ne_o (by assumption) (by assumption)))).trans ?_)) rfl (lkA q481) (lkA q483) (lkA qs5) rfl (lkA q72) mp_J5_checkInvariants (Nat.le_of_ble_eq_true rfl) (Nat.le_of_ble_eq_true rfl) (Nat.le_of_ble_eq_true rfl) (kr_e ?_) kx_e
  refine r_iload_n dJ5_get_35 rfl ?_
  refine r_invS dJ5_get_36 (sp_J5_wordIndex k0 k4) rfl mo_J5_wordIndex (lkA q192) (lkA q193) (lkA q72) mp_J5_wordIndex (Nat.le_of_ble_eq_true rfl) (Nat.le_of_ble_eq_true rfl) (Nat.le_of_ble_eq_true rfl) (kr_e ?_) kx_e
  refine r_istore_n dJ5_get_39 (Nat.le_of_ble_eq_true rfl) ?_
  refine r_iload_n dJ5_get_40 rfl ?_
  first | refine r_aload_n dJ5_get_41 rfl ?_ | refine r_aload_nq dJ5_get_41 rfl ?_ | refine r_aload_nN dJ5_get_41 rfl ?_
  refine r_getfield 12 1 dJ5_get_42 rfl (Nat.le_of_ble_eq_true rfl) (lkA q196) (Or.inl rfl) (by first | exact Or.inl (by assumption) | assumption | (refine Or.inl ?_; repeat' first | assumption | exact hu_s | refine hu_o (by assumption) ?_ | refine (hu_n (by first | assumption | exact Ne.symm (by assumption) | exact ne_o (by assumption) (by assumption) | exact Ne.symm (ne_o (by assumption) (by assumption)))).trans ?_)) (by rfl) ?_
  refine r_icmp_ge 67 dJ5_get_45 rfl (fun c45 => ?_) (fun c45 => ?_)
  · refine r_iconst (v := 0) dJ5_get_67 rfl ?_
    exact r_ireturn dJ5_get_68 rfl (by first | rfl | exact bi_nar) (by rw [wz_0 c45, if_pos (bget_0 k0 k4)]; exact ⟨rfl, rfl⟩)
  · first | refine r_aload_n dJ5_get_48 rfl ?_ | refine r_aload_nq dJ5_get_48 rfl ?_ | refine r_aload_nN dJ5_get_48 rfl ?_
    refine r_getfield 12 0 dJ5_get_49 rfl (Nat.le_of_ble_eq_true rfl) (lkA q195) (Or.inl rfl) (by first | exact Or.inl (by assumption) | assumption | (refine Or.inl ?_; repeat' first | assumption | exact hu_s | refine hu_o (by assumption) ?_ | refine (hu_n (by first | assumption | exact Ne.symm (by assumption) | exact ne_o (by assumption) (by assumption) | exact Ne.symm (ne_o (by assumption) (by assumption)))).trans ?_)) (by rfl) ?_
    refine r_iload_n dJ5_get_52 rfl ?_
    refine r_laload (0) dJ5_get_53 (by first | exact Or.inl (by assumption) | assumption | (refine Or.inl ?_; repeat' first | assumption | exact hu_s | refine hu_o (by assumption) ?_ | refine (hu_n (by first | assumption | exact Ne.symm (by assumption) | exact ne_o (by assumption) (by assumption) | exact Ne.symm (ne_o (by assumption) (by assumption)))).trans ?_)) rfl (by decide) (show fWd w 0 = w.toInt64 from rfl) ?_
    refine r_lconst (v := 1) dJ5_get_54 rfl ?_
    refine r_iload_n dJ5_get_55 rfl ?_
    refine r_lshl dJ5_get_56 ?_
    refine r_land dJ5_get_57 ?_
    refine r_lconst (v := 0) dJ5_get_58 rfl ?_
    refine r_lcmp dJ5_get_59 ?_
    refine r_if_eq 67 dJ5_get_60 rfl (fun c60 => ?_) (fun c60 => ?_)
    · refine r_iconst (v := 0) dJ5_get_67 rfl ?_
      exact r_ireturn dJ5_get_68 rfl (by first | rfl | exact bi_nar) (by rw [if_pos ((bget_c h0 h7 k0 k4).mp c60)]; exact ⟨rfl, rfl⟩)
    · refine r_iconst (v := 1) dJ5_get_63 rfl ?_
      refine r_goto 68 dJ5_get_64 rfl ?_
      exact r_ireturn dJ5_get_68 rfl (by first | rfl | exact bi_nar) (by rw [if_neg (fun e => c60 ((bget_c h0 h7 k0 k4).mpr e))]; exact ⟨rfl, rfl⟩)

set_option maxHeartbeats 4000000 in
set_option maxRecDepth 100000 in
theorem sp_J5_expandTo {G : GG} {h : HP} {a wa : Nat} {w : Int32} (ha : h a = some (bBs wa w)) (hwa : h wa = some (bWd w))  : Ct G 1 0 M_J5_expandTo [.ref a, .int 0] h (eQ none (hu h a (bO 12 [.ref wa, .int 1, .int 1]))) := by
  refine ct_intro my_J5_expandTo (Nat.le_of_ble_eq_true rfl) ?_
  refine r_iload_n dJ5_expandTo_0 rfl ?_
  refine r_iconst (v := 1) dJ5_expandTo_1 rfl ?_
  refine r_iadd dJ5_expandTo_2 ?_
  refine r_istore_n dJ5_expandTo_3 (Nat.le_of_ble_eq_true rfl) ?_
  first | refine r_aload_n dJ5_expandTo_4 rfl ?_ | refine r_aload_nq dJ5_expandTo_4 rfl ?_ | refine r_aload_nN dJ5_expandTo_4 rfl ?_
  refine r_getfield 12 1 dJ5_expandTo_5 rfl (Nat.le_of_ble_eq_true rfl) (lkA q196) (Or.inl rfl) (by first | exact Or.inl (by assumption) | assumption | (refine Or.inl ?_; repeat' first | assumption | exact hu_s | refine hu_o (by assumption) ?_ | refine (hu_n (by first | assumption | exact Ne.symm (by assumption) | exact ne_o (by assumption) (by assumption) | exact Ne.symm (ne_o (by assumption) (by assumption)))).trans ?_)) (by rfl) ?_
  refine r_iload_n dJ5_expandTo_8 rfl ?_
  refine r_icmp_ge 22 dJ5_expandTo_9 rfl (fun c9 => ?_) (fun c9 => ?_)
  · exact r_return dJ5_expandTo_22 rfl ⟨rfl, hu_same (by rw [ha, bBs, wz_1 c9])⟩
  · first | refine r_aload_n dJ5_expandTo_12 rfl ?_ | refine r_aload_nq dJ5_expandTo_12 rfl ?_ | refine r_aload_nN dJ5_expandTo_12 rfl ?_
    refine r_iload_n dJ5_expandTo_13 rfl ?_
    refine r_invV dJ5_expandTo_14 (sp_J5_ensureCapacity ha hwa) rfl mo_J5_ensureCapacity (by first | exact Or.inl (by assumption) | assumption | (refine Or.inl ?_; repeat' first | assumption | exact hu_s | refine hu_o (by assumption) ?_ | refine (hu_n (by first | assumption | exact Ne.symm (by assumption) | exact ne_o (by assumption) (by assumption) | exact Ne.symm (ne_o (by assumption) (by assumption)))).trans ?_)) rfl (lkA q465) (lkA q467) (lkA qs4) rfl (lkA q72) mp_J5_ensureCapacity (Nat.le_of_ble_eq_true rfl) (Nat.le_of_ble_eq_true rfl) (Nat.le_of_ble_eq_true rfl) (kr_e ?_) kx_e
    first | refine r_aload_n dJ5_expandTo_17 rfl ?_ | refine r_aload_nq dJ5_expandTo_17 rfl ?_ | refine r_aload_nN dJ5_expandTo_17 rfl ?_
    refine r_iload_n dJ5_expandTo_18 rfl ?_
    refine r_put 12 1 dJ5_expandTo_19 rfl (Nat.le_of_ble_eq_true rfl) (lkA q196) (Or.inl rfl) rfl (by repeat' first | assumption | exact hu_s | refine hu_o (by assumption) ?_ | refine (hu_n (by first | assumption | exact Ne.symm (by assumption) | exact ne_o (by assumption) (by assumption) | exact Ne.symm (ne_o (by assumption) (by assumption)))).trans ?_) (by dsimp only [List.set]) (Nat.le_of_ble_eq_true rfl) rfl rfl (by first | exact hu_hu | exact rfl) ?_
    exact r_return dJ5_expandTo_22 rfl ⟨rfl, rfl⟩

set_option maxHeartbeats 4000000 in
set_option maxRecDepth 100000 in
theorem sp_J5_set {G : GG} {h : HP} (hK : KS G) {a wa : Nat} {w : Int32} {k : Int32} (ha : h a = some (bBs wa w)) (hwa : h wa = some (bWd w)) (h0 : 0 ≤ w.toInt) (h7 : w.toInt ≤ 7) (k0 : 0 ≤ k.toInt) (k3 : k.toInt ≤ 2) : Ct G 2 0 M_J5_set [.ref a, .int k] h (eQ none (hu (hu h a (bO 12 [.ref wa, .int 1, .int 1])) wa (bWd (bset w k)))) := by
  refine ct_intro my_J5_set (Nat.le_of_ble_eq_true rfl) ?_
  have k4 : k.toInt ≤ 3 := by omega
  have ewa : wa ≠ a := Ne.symm (ne_b hwa ha (fun e => by cases e))
  refine r_iload_n dJ5_set_0 rfl ?_
  refine r_if_ge 31 dJ5_set_1 rfl (fun c1 => ?_) (fun c1 => absurd c1 (by intro hq; apply hq; rw [Int32.le_iff_toInt_le]; exact k0))
  refine r_iload_n dJ5_set_31 rfl ?_
  refine r_invS dJ5_set_32 (sp_J5_wordIndex k0 k4) rfl mo_J5_wordIndex (lkA q192) (lkA q193) (lkA q72) mp_J5_wordIndex (Nat.le_of_ble_eq_true rfl) (Nat.le_of_ble_eq_true rfl) (Nat.le_of_ble_eq_true rfl) (kr_e ?_) kx_e
  refine r_istore_n dJ5_set_35 (Nat.le_of_ble_eq_true rfl) ?_
  first | refine r_aload_n dJ5_set_36 rfl ?_ | refine r_aload_nq dJ5_set_36 rfl ?_ | refine r_aload_nN dJ5_set_36 rfl ?_
  refine r_iload_n dJ5_set_37 rfl ?_
  refine r_invV dJ5_set_38 (sp_J5_expandTo ha hwa) rfl mo_J5_expandTo (by first | exact Or.inl (by assumption) | assumption | (refine Or.inl ?_; repeat' first | assumption | exact hu_s | refine hu_o (by assumption) ?_ | refine (hu_n (by first | assumption | exact Ne.symm (by assumption) | exact ne_o (by assumption) (by assumption) | exact Ne.symm (ne_o (by assumption) (by assumption)))).trans ?_)) rfl (lkA q1376) (lkA q1378) (lkA qs19) rfl (lkA q72) mp_J5_expandTo (Nat.le_of_ble_eq_true rfl) (Nat.le_of_ble_eq_true rfl) (Nat.le_of_ble_eq_true rfl) (kr_e ?_) kx_e
  first | refine r_aload_n dJ5_set_41 rfl ?_ | refine r_aload_nq dJ5_set_41 rfl ?_ | refine r_aload_nN dJ5_set_41 rfl ?_
  refine r_getfield 12 0 dJ5_set_42 rfl (Nat.le_of_ble_eq_true rfl) (lkA q195) (Or.inl rfl) (by first | exact Or.inl (by assumption) | assumption | (refine Or.inl ?_; repeat' first | assumption | exact hu_s | refine hu_o (by assumption) ?_ | refine (hu_n (by first | assumption | exact Ne.symm (by assumption) | exact ne_o (by assumption) (by assumption) | exact Ne.symm (ne_o (by assumption) (by assumption)))).trans ?_)) (by rfl) ?_
  refine r_iload_n dJ5_set_45 rfl ?_
  refine r_dup2 dJ5_set_46 rfl rfl ?_
  refine r_laload (0) dJ5_set_47 (Or.inl ((hu_n ewa).trans hwa)) rfl (by decide) (show fWd w 0 = w.toInt64 from rfl) ?_
  refine r_lconst (v := 1) dJ5_set_48 rfl ?_
  refine r_iload_n dJ5_set_49 rfl ?_
  refine r_lshl dJ5_set_50 ?_
  refine r_lor dJ5_set_51 ?_
  refine r_lastore (0) dJ5_set_52 ((hu_n ewa).trans hwa) rfl (by decide) ?_
  first | refine r_aload_n dJ5_set_53 rfl ?_ | refine r_aload_nq dJ5_set_53 rfl ?_ | refine r_aload_nN dJ5_set_53 rfl ?_
  refine r_invV dJ5_set_54 (sp_J5_checkInvariants hK) rfl mo_J5_checkInvariants (Or.inl ((hu_n (Ne.symm ewa)).trans hu_s)) rfl (lkA q481) (lkA q483) (lkA qs5) rfl (lkA q72) mp_J5_checkInvariants (Nat.le_of_ble_eq_true rfl) (Nat.le_of_ble_eq_true rfl) (Nat.le_of_ble_eq_true rfl) (kr_e ?_) kx_e
  exact r_return dJ5_set_57 rfl ⟨rfl, by rw [fWd_u (bset_w h0 h7 k0 k3).1]⟩

set_option maxHeartbeats 4000000 in
set_option maxRecDepth 100000 in
theorem sp_J5_nextSetBit {G : GG} {h : HP} (hK : KS G) {a wa : Nat} {w : Int32} {k : Int32} (ha : h a = some (bBs wa w)) (hwa : h wa = some (bWd w)) (h0 : 0 ≤ w.toInt) (h7 : w.toInt ≤ 7) (k0 : 0 ≤ k.toInt) (k3 : k.toInt ≤ 3) : Ct G 2 0 M_J5_nextSetBit [.ref a, .int k] h (eQ (some (.int (nxb w k))) h) := by
  refine ct_intro my_J5_nextSetBit (Nat.le_of_ble_eq_true rfl) ?_
  refine r_iload_n dJ5_nextSetBit_0 rfl ?_
  refine r_if_ge 31 dJ5_nextSetBit_1 rfl (fun c1 => ?_) (fun c1 => absurd c1 (by intro hq; apply hq; rw [Int32.le_iff_toInt_le]; exact k0))
  first | refine r_aload_n dJ5_nextSetBit_31 rfl ?_ | refine r_aload_nq dJ5_nextSetBit_31 rfl ?_ | refine r_aload_nN dJ5_nextSetBit_31 rfl ?_
  refine r_invV dJ5_nextSetBit_32 (sp_J5_checkInvariants hK) rfl mo_J5_checkInvariants (by first | exact Or.inl (by assumption) | assumption | (refine Or.inl ?_; repeat' first | assumption | exact hu_s | refine hu_o (by assumption) ?_ | refine (hu_n (by first | assumption | exact Ne.symm (by assumption) | exact ne_o (by assumption) (by assumption) | exact Ne.symm (ne_o (by assumption) (by assumption)))).trans ?_)) rfl (lkA q481) (lkA q483) (lkA qs5) rfl (lkA q72) mp_J5_checkInvariants (Nat.le_of_ble_eq_true rfl) (Nat.le_of_ble_eq_true rfl) (Nat.le_of_ble_eq_true rfl) (kr_e ?_) kx_e
  refine r_iload_n dJ5_nextSetBit_35 rfl ?_
  refine r_invS dJ5_nextSetBit_36 (sp_J5_wordIndex k0 k3) rfl mo_J5_wordIndex (lkA q192) (lkA q193) (lkA q72) mp_J5_wordIndex (Nat.le_of_ble_eq_true rfl) (Nat.le_of_ble_eq_true rfl) (Nat.le_of_ble_eq_true rfl) (kr_e ?_) kx_e
  refine r_istore_n dJ5_nextSetBit_39 (Nat.le_of_ble_eq_true rfl) ?_
  refine r_iload_n dJ5_nextSetBit_40 rfl ?_
  first | refine r_aload_n dJ5_nextSetBit_41 rfl ?_ | refine r_aload_nq dJ5_nextSetBit_41 rfl ?_ | refine r_aload_nN dJ5_nextSetBit_41 rfl ?_
  refine r_getfield 12 1 dJ5_nextSetBit_42 rfl (Nat.le_of_ble_eq_true rfl) (lkA q196) (Or.inl rfl) (by first | exact Or.inl (by assumption) | assumption | (refine Or.inl ?_; repeat' first | assumption | exact hu_s | refine hu_o (by assumption) ?_ | refine (hu_n (by first | assumption | exact Ne.symm (by assumption) | exact ne_o (by assumption) (by assumption) | exact Ne.symm (ne_o (by assumption) (by assumption)))).trans ?_)) (by rfl) ?_
  refine r_icmp_lt 50 dJ5_nextSetBit_45 rfl (fun c45 => ?_) (fun c45 => ?_)
  · first | refine r_aload_n dJ5_nextSetBit_50 rfl ?_ | refine r_aload_nq dJ5_nextSetBit_50 rfl ?_ | refine r_aload_nN dJ5_nextSetBit_50 rfl ?_
    refine r_getfield 12 0 dJ5_nextSetBit_51 rfl (Nat.le_of_ble_eq_true rfl) (lkA q195) (Or.inl rfl) (by first | exact Or.inl (by assumption) | assumption | (refine Or.inl ?_; repeat' first | assumption | exact hu_s | refine hu_o (by assumption) ?_ | refine (hu_n (by first | assumption | exact Ne.symm (by assumption) | exact ne_o (by assumption) (by assumption) | exact Ne.symm (ne_o (by assumption) (by assumption)))).trans ?_)) (by rfl) ?_
    refine r_iload_n dJ5_nextSetBit_54 rfl ?_
    refine r_laload (0) dJ5_nextSetBit_55 (by first | exact Or.inl (by assumption) | assumption | (refine Or.inl ?_; repeat' first | assumption | exact hu_s | refine hu_o (by assumption) ?_ | refine (hu_n (by first | assumption | exact Ne.symm (by assumption) | exact ne_o (by assumption) (by assumption) | exact Ne.symm (ne_o (by assumption) (by assumption)))).trans ?_)) rfl (by decide) (show fWd w 0 = w.toInt64 from rfl) ?_
    refine r_ldc2 dJ5_nextSetBit_56 (lkA q1238) ?_
    refine r_iload_n dJ5_nextSetBit_59 rfl ?_
    refine r_lshl dJ5_nextSetBit_60 ?_
    refine r_land dJ5_nextSetBit_61 ?_
    refine r_lstore_n dJ5_nextSetBit_62 (Nat.le_of_ble_eq_true rfl) ?_
    refine r_lload_n dJ5_nextSetBit_63 rfl ?_
    refine r_lconst (v := 0) dJ5_nextSetBit_64 rfl ?_
    refine r_lcmp dJ5_nextSetBit_65 ?_
    refine r_if_eq 79 dJ5_nextSetBit_66 rfl (fun c66 => ?_) (fun c66 => ?_)
    · refine r_inc 1 dJ5_nextSetBit_79 rfl rfl (Nat.le_of_ble_eq_true rfl) ?_
      refine r_iload_n dJ5_nextSetBit_82 rfl ?_
      first | refine r_aload_n dJ5_nextSetBit_83 rfl ?_ | refine r_aload_nq dJ5_nextSetBit_83 rfl ?_ | refine r_aload_nN dJ5_nextSetBit_83 rfl ?_
      refine r_getfield 12 1 dJ5_nextSetBit_84 rfl (Nat.le_of_ble_eq_true rfl) (lkA q196) (Or.inl rfl) (by first | exact Or.inl (by assumption) | assumption | (refine Or.inl ?_; repeat' first | assumption | exact hu_s | refine hu_o (by assumption) ?_ | refine (hu_n (by first | assumption | exact Ne.symm (by assumption) | exact ne_o (by assumption) (by assumption) | exact Ne.symm (ne_o (by assumption) (by assumption)))).trans ?_)) (by rfl) ?_
      refine r_icmp_ne 92 dJ5_nextSetBit_87 rfl (fun c87 => absurd c87 (by rw [wz_n (wz_p (Int32.not_le.mpr c45))]; decide)) (fun c87 => ?_)
      refine r_iconst (v := (-1)) dJ5_nextSetBit_90 rfl ?_
      exact r_ireturn dJ5_nextSetBit_91 rfl (by first | rfl | exact bi_nar) (by have e := wz_p (Int32.not_le.mpr c45); unfold nxb nbM; rw [if_neg e, if_pos c66]; exact ⟨rfl, rfl⟩)
    · refine r_iload_n dJ5_nextSetBit_69 rfl ?_
      refine r_bipush (v := 64) dJ5_nextSetBit_70 rfl ?_
      refine r_imul dJ5_nextSetBit_72 ?_
      refine r_lload_n dJ5_nextSetBit_73 rfl ?_
      refine r_invS dJ5_nextSetBit_74 (sp_J26_numberOfTrailingZeros (nbM_f h0 h7 k0 k3 c66).1 (nbM_f h0 h7 k0 k3 c66).2.1 (nbM_f h0 h7 k0 k3 c66).2.2) rfl mo_J26_numberOfTrailingZeros (lkA q1239) (lkA q1240) (lkA q100) mp_J26_numberOfTrailingZeros (Nat.le_of_ble_eq_true rfl) (Nat.le_of_ble_eq_true rfl) (Nat.le_of_ble_eq_true rfl) (kr_e ?_) kx_e
      refine r_iadd dJ5_nextSetBit_77 ?_
      exact r_ireturn dJ5_nextSetBit_78 rfl (by first | rfl | exact bi_nar) (by have e := wz_p (Int32.not_le.mpr c45); unfold nxb nbM; rw [if_neg e, if_neg c66]; exact ⟨rfl, rfl⟩)
  · refine r_iconst (v := (-1)) dJ5_nextSetBit_48 rfl ?_
    exact r_ireturn dJ5_nextSetBit_49 rfl (by first | rfl | exact bi_nar) (by have e := wz_0 (Int32.not_lt.mp c45); unfold nxb; rw [if_pos e]; exact ⟨rfl, rfl⟩)

set_option maxHeartbeats 4000000 in
set_option maxRecDepth 100000 in
theorem sp_J5_or0 {G : GG} {h : HP} (hK : KS G) {a wa b wb : Nat} {w : Int32} (ha : h a = some (bBs wa 0)) (hwa : h wa = some (bWd 0)) (hb : h b = some (bBs wb w)) (hwb : h wb = some (bWd w)) (hab : a ≠ b) (hw : w = 0) : Ct G 1 0 M_J5_or [.ref a, .ref b] h (eQ none h) := by
  refine ct_intro my_J5_or (Nat.le_of_ble_eq_true rfl) ?_
  subst hw
  first | refine r_aload_n dJ5_or_0 rfl ?_ | refine r_aload_nq dJ5_or_0 rfl ?_ | refine r_aload_nN dJ5_or_0 rfl ?_
  first | refine r_aload_n dJ5_or_1 rfl ?_ | refine r_aload_nq dJ5_or_1 rfl ?_ | refine r_aload_nN dJ5_or_1 rfl ?_
  refine r_acmp_ne (x := some a) (y := some b) 6 dJ5_or_2 rfl (fun c2 => ?_) (fun c2 => absurd c2 (fun e => hab (Option.some.inj e)))
  first | refine r_aload_n dJ5_or_6 rfl ?_ | refine r_aload_nq dJ5_or_6 rfl ?_ | refine r_aload_nN dJ5_or_6 rfl ?_
  refine r_getfield 12 1 dJ5_or_7 rfl (Nat.le_of_ble_eq_true rfl) (lkA q196) (Or.inl rfl) (by first | exact Or.inl (by assumption) | assumption | (refine Or.inl ?_; repeat' first | assumption | exact hu_s | refine hu_o (by assumption) ?_ | refine (hu_n (by first | assumption | exact Ne.symm (by assumption) | exact ne_o (by assumption) (by assumption) | exact Ne.symm (ne_o (by assumption) (by assumption)))).trans ?_)) (by rfl) ?_
  first | refine r_aload_n dJ5_or_10 rfl ?_ | refine r_aload_nq dJ5_or_10 rfl ?_ | refine r_aload_nN dJ5_or_10 rfl ?_
  refine r_getfield 12 1 dJ5_or_11 rfl (Nat.le_of_ble_eq_true rfl) (lkA q196) (Or.inl rfl) (by first | exact Or.inl (by assumption) | assumption | (refine Or.inl ?_; repeat' first | assumption | exact hu_s | refine hu_o (by assumption) ?_ | refine (hu_n (by first | assumption | exact Ne.symm (by assumption) | exact ne_o (by assumption) (by assumption) | exact Ne.symm (ne_o (by assumption) (by assumption)))).trans ?_)) (by rfl) ?_
  refine r_mmin dJ5_or_14 (lkA q464) (lkA q290) (lkA q74) (lkA q291) (Nat.le_of_ble_eq_true rfl) (Nat.le_of_ble_eq_true rfl) ?_
  refine r_istore_n dJ5_or_17 (Nat.le_of_ble_eq_true rfl) ?_
  first | refine r_aload_n dJ5_or_18 rfl ?_ | refine r_aload_nq dJ5_or_18 rfl ?_ | refine r_aload_nN dJ5_or_18 rfl ?_
  refine r_getfield 12 1 dJ5_or_19 rfl (Nat.le_of_ble_eq_true rfl) (lkA q196) (Or.inl rfl) (by first | exact Or.inl (by assumption) | assumption | (refine Or.inl ?_; repeat' first | assumption | exact hu_s | refine hu_o (by assumption) ?_ | refine (hu_n (by first | assumption | exact Ne.symm (by assumption) | exact ne_o (by assumption) (by assumption) | exact Ne.symm (ne_o (by assumption) (by assumption)))).trans ?_)) (by rfl) ?_
  first | refine r_aload_n dJ5_or_22 rfl ?_ | refine r_aload_nq dJ5_or_22 rfl ?_ | refine r_aload_nN dJ5_or_22 rfl ?_
  refine r_getfield 12 1 dJ5_or_23 rfl (Nat.le_of_ble_eq_true rfl) (lkA q196) (Or.inl rfl) (by first | exact Or.inl (by assumption) | assumption | (refine Or.inl ?_; repeat' first | assumption | exact hu_s | refine hu_o (by assumption) ?_ | refine (hu_n (by first | assumption | exact Ne.symm (by assumption) | exact ne_o (by assumption) (by assumption) | exact Ne.symm (ne_o (by assumption) (by assumption)))).trans ?_)) (by rfl) ?_
  refine r_icmp_ge 45 dJ5_or_26 rfl (fun c26 => ?_) (fun c26 => absurd c26 (by decide))
  refine r_iconst (v := 0) dJ5_or_45 rfl ?_
  refine r_istore_n dJ5_or_46 (Nat.le_of_ble_eq_true rfl) ?_
  refine r_iload_n dJ5_or_47 rfl ?_
  refine r_iload_n dJ5_or_48 rfl ?_
  refine r_icmp_ge 73 dJ5_or_49 rfl (fun c49 => ?_) (fun c49 => absurd c49 (by decide))
  refine r_iload_n dJ5_or_73 rfl ?_
  first | refine r_aload_n dJ5_or_74 rfl ?_ | refine r_aload_nq dJ5_or_74 rfl ?_ | refine r_aload_nN dJ5_or_74 rfl ?_
  refine r_getfield 12 1 dJ5_or_75 rfl (Nat.le_of_ble_eq_true rfl) (lkA q196) (Or.inl rfl) (by first | exact Or.inl (by assumption) | assumption | (refine Or.inl ?_; repeat' first | assumption | exact hu_s | refine hu_o (by assumption) ?_ | refine (hu_n (by first | assumption | exact Ne.symm (by assumption) | exact ne_o (by assumption) (by assumption) | exact Ne.symm (ne_o (by assumption) (by assumption)))).trans ?_)) (by rfl) ?_
  refine r_icmp_ge 100 dJ5_or_78 rfl (fun c78 => ?_) (fun c78 => absurd c78 (by decide))
  first | refine r_aload_n dJ5_or_100 rfl ?_ | refine r_aload_nq dJ5_or_100 rfl ?_ | refine r_aload_nN dJ5_or_100 rfl ?_
  refine r_invV dJ5_or_101 (sp_J5_checkInvariants hK) rfl mo_J5_checkInvariants (by first | exact Or.inl (by assumption) | assumption | (refine Or.inl ?_; repeat' first | assumption | exact hu_s | refine hu_o (by assumption) ?_ | refine (hu_n (by first | assumption | exact Ne.symm (by assumption) | exact ne_o (by assumption) (by assumption) | exact Ne.symm (ne_o (by assumption) (by assumption)))).trans ?_)) rfl (lkA q481) (lkA q483) (lkA qs5) rfl (lkA q72) mp_J5_checkInvariants (Nat.le_of_ble_eq_true rfl) (Nat.le_of_ble_eq_true rfl) (Nat.le_of_ble_eq_true rfl) (kr_e ?_) kx_e
  exact r_return dJ5_or_104 rfl (by first | exact ⟨rfl, rfl⟩ | rfl)

set_option maxHeartbeats 4000000 in
set_option maxRecDepth 100000 in
theorem sp_J5_or1 {G : GG} {h : HP} (hK : KS G) {a wa b wb : Nat} {w : Int32} (ha : h a = some (bBs wa 0)) (hwa : h wa = some (bWd 0)) (hb : h b = some (bBs wb w)) (hwb : h wb = some (bWd w)) (hab : a ≠ b) (hw : ¬ w = 0) : Ct G 1 0 M_J5_or [.ref a, .ref b] h (eQ none (hu (hu h a (bO 12 [.ref wa, .int 1, .int 1])) wa (bWd w))) := by
  refine ct_intro my_J5_or (Nat.le_of_ble_eq_true rfl) ?_
  have e0 : (if w = 0 then (0 : Int32) else 1) = 1 := if_neg hw
  rw [bBs, e0] at hb
  have ewa : wa ≠ a := Ne.symm (ne_b hwa ha (fun e => by cases e))
  have ewb : wb ≠ a := Ne.symm (ne_b hwb ha (fun e => by cases e))
  have eba : b ≠ a := Ne.symm hab
  first | refine r_aload_n dJ5_or_0 rfl ?_ | refine r_aload_nq dJ5_or_0 rfl ?_ | refine r_aload_nN dJ5_or_0 rfl ?_
  first | refine r_aload_n dJ5_or_1 rfl ?_ | refine r_aload_nq dJ5_or_1 rfl ?_ | refine r_aload_nN dJ5_or_1 rfl ?_
  refine r_acmp_ne (x := some a) (y := some b) 6 dJ5_or_2 rfl (fun c2 => ?_) (fun c2 => absurd c2 (fun e => hab (Option.some.inj e)))
  first | refine r_aload_n dJ5_or_6 rfl ?_ | refine r_aload_nq dJ5_or_6 rfl ?_ | refine r_aload_nN dJ5_or_6 rfl ?_
  refine r_getfield 12 1 dJ5_or_7 rfl (Nat.le_of_ble_eq_true rfl) (lkA q196) (Or.inl rfl) (by first | exact Or.inl (by assumption) | assumption | (refine Or.inl ?_; repeat' first | assumption | exact hu_s | refine hu_o (by assumption) ?_ | refine (hu_n (by first | assumption | exact Ne.symm (by assumption) | exact ne_o (by assumption) (by assumption) | exact Ne.symm (ne_o (by assumption) (by assumption)))).trans ?_)) (by rfl) ?_
  first | refine r_aload_n dJ5_or_10 rfl ?_ | refine r_aload_nq dJ5_or_10 rfl ?_ | refine r_aload_nN dJ5_or_10 rfl ?_
  refine r_getfield 12 1 dJ5_or_11 rfl (Nat.le_of_ble_eq_true rfl) (lkA q196) (Or.inl rfl) (by first | exact Or.inl (by assumption) | assumption | (refine Or.inl ?_; repeat' first | assumption | exact hu_s | refine hu_o (by assumption) ?_ | refine (hu_n (by first | assumption | exact Ne.symm (by assumption) | exact ne_o (by assumption) (by assumption) | exact Ne.symm (ne_o (by assumption) (by assumption)))).trans ?_)) (by rfl) ?_
  refine r_mmin dJ5_or_14 (lkA q464) (lkA q290) (lkA q74) (lkA q291) (Nat.le_of_ble_eq_true rfl) (Nat.le_of_ble_eq_true rfl) ?_
  refine r_istore_n dJ5_or_17 (Nat.le_of_ble_eq_true rfl) ?_
  first | refine r_aload_n dJ5_or_18 rfl ?_ | refine r_aload_nq dJ5_or_18 rfl ?_ | refine r_aload_nN dJ5_or_18 rfl ?_
  refine r_getfield 12 1 dJ5_or_19 rfl (Nat.le_of_ble_eq_true rfl) (lkA q196) (Or.inl rfl) (by first | exact Or.inl (by assumption) | assumption | (refine Or.inl ?_; repeat' first | assumption | exact hu_s | refine hu_o (by assumption) ?_ | refine (hu_n (by first | assumption | exact Ne.symm (by assumption) | exact ne_o (by assumption) (by assumption) | exact Ne.symm (ne_o (by assumption) (by assumption)))).trans ?_)) (by rfl) ?_
  first | refine r_aload_n dJ5_or_22 rfl ?_ | refine r_aload_nq dJ5_or_22 rfl ?_ | refine r_aload_nN dJ5_or_22 rfl ?_
  refine r_getfield 12 1 dJ5_or_23 rfl (Nat.le_of_ble_eq_true rfl) (lkA q196) (Or.inl rfl) (by first | exact Or.inl (by assumption) | assumption | (refine Or.inl ?_; repeat' first | assumption | exact hu_s | refine hu_o (by assumption) ?_ | refine (hu_n (by first | assumption | exact Ne.symm (by assumption) | exact ne_o (by assumption) (by assumption) | exact Ne.symm (ne_o (by assumption) (by assumption)))).trans ?_)) (by rfl) ?_
  refine r_icmp_ge 45 dJ5_or_26 rfl (fun c26 => absurd c26 (by decide)) (fun c26 => ?_)
  first | refine r_aload_n dJ5_or_29 rfl ?_ | refine r_aload_nq dJ5_or_29 rfl ?_ | refine r_aload_nN dJ5_or_29 rfl ?_
  first | refine r_aload_n dJ5_or_30 rfl ?_ | refine r_aload_nq dJ5_or_30 rfl ?_ | refine r_aload_nN dJ5_or_30 rfl ?_
  refine r_getfield 12 1 dJ5_or_31 rfl (Nat.le_of_ble_eq_true rfl) (lkA q196) (Or.inl rfl) (by first | exact Or.inl (by assumption) | assumption | (refine Or.inl ?_; repeat' first | assumption | exact hu_s | refine hu_o (by assumption) ?_ | refine (hu_n (by first | assumption | exact Ne.symm (by assumption) | exact ne_o (by assumption) (by assumption) | exact Ne.symm (ne_o (by assumption) (by assumption)))).trans ?_)) (by rfl) ?_
  refine r_invV dJ5_or_34 (sp_J5_ensureCapacity ha hwa) rfl mo_J5_ensureCapacity (by first | exact Or.inl (by assumption) | assumption | (refine Or.inl ?_; repeat' first | assumption | exact hu_s | refine hu_o (by assumption) ?_ | refine (hu_n (by first | assumption | exact Ne.symm (by assumption) | exact ne_o (by assumption) (by assumption) | exact Ne.symm (ne_o (by assumption) (by assumption)))).trans ?_)) rfl (lkA q465) (lkA q467) (lkA qs4) rfl (lkA q72) mp_J5_ensureCapacity (Nat.le_of_ble_eq_true rfl) (Nat.le_of_ble_eq_true rfl) (Nat.le_of_ble_eq_true rfl) (kr_e ?_) kx_e
  first | refine r_aload_n dJ5_or_37 rfl ?_ | refine r_aload_nq dJ5_or_37 rfl ?_ | refine r_aload_nN dJ5_or_37 rfl ?_
  first | refine r_aload_n dJ5_or_38 rfl ?_ | refine r_aload_nq dJ5_or_38 rfl ?_ | refine r_aload_nN dJ5_or_38 rfl ?_
  refine r_getfield 12 1 dJ5_or_39 rfl (Nat.le_of_ble_eq_true rfl) (lkA q196) (Or.inl rfl) (by first | exact Or.inl (by assumption) | assumption | (refine Or.inl ?_; repeat' first | assumption | exact hu_s | refine hu_o (by assumption) ?_ | refine (hu_n (by first | assumption | exact Ne.symm (by assumption) | exact ne_o (by assumption) (by assumption) | exact Ne.symm (ne_o (by assumption) (by assumption)))).trans ?_)) (by rfl) ?_
  refine r_put 12 1 dJ5_or_42 rfl (Nat.le_of_ble_eq_true rfl) (lkA q196) (Or.inl rfl) rfl (by repeat' first | assumption | exact hu_s | refine hu_o (by assumption) ?_ | refine (hu_n (by first | assumption | exact Ne.symm (by assumption) | exact ne_o (by assumption) (by assumption) | exact Ne.symm (ne_o (by assumption) (by assumption)))).trans ?_) (by dsimp only [List.set]) (Nat.le_of_ble_eq_true rfl) rfl rfl (by first | exact hu_hu | exact rfl) ?_
  refine r_iconst (v := 0) dJ5_or_45 rfl ?_
  refine r_istore_n dJ5_or_46 (Nat.le_of_ble_eq_true rfl) ?_
  refine r_iload_n dJ5_or_47 rfl ?_
  refine r_iload_n dJ5_or_48 rfl ?_
  refine r_icmp_ge 73 dJ5_or_49 rfl (fun c49 => ?_) (fun c49 => absurd c49 (by decide))
  refine r_iload_n dJ5_or_73 rfl ?_
  first | refine r_aload_n dJ5_or_74 rfl ?_ | refine r_aload_nq dJ5_or_74 rfl ?_ | refine r_aload_nN dJ5_or_74 rfl ?_
  refine r_getfield 12 1 dJ5_or_75 rfl (Nat.le_of_ble_eq_true rfl) (lkA q196) (Or.inl rfl) (Or.inl ((hu_n eba).trans hb)) (by rfl) ?_
  refine r_icmp_ge 100 dJ5_or_78 rfl (fun c78 => absurd c78 (by decide)) (fun c78 => ?_)
  first | refine r_aload_n dJ5_or_81 rfl ?_ | refine r_aload_nq dJ5_or_81 rfl ?_ | refine r_aload_nN dJ5_or_81 rfl ?_
  refine r_getfield 12 0 dJ5_or_82 rfl (Nat.le_of_ble_eq_true rfl) (lkA q195) (Or.inl rfl) (Or.inl ((hu_n eba).trans hb)) (by rfl) ?_
  refine r_iload_n dJ5_or_85 rfl ?_
  first | refine r_aload_n dJ5_or_86 rfl ?_ | refine r_aload_nq dJ5_or_86 rfl ?_ | refine r_aload_nN dJ5_or_86 rfl ?_
  refine r_getfield 12 0 dJ5_or_87 rfl (Nat.le_of_ble_eq_true rfl) (lkA q195) (Or.inl rfl) (by first | exact Or.inl (by assumption) | assumption | (refine Or.inl ?_; repeat' first | assumption | exact hu_s | refine hu_o (by assumption) ?_ | refine (hu_n (by first | assumption | exact Ne.symm (by assumption) | exact ne_o (by assumption) (by assumption) | exact Ne.symm (ne_o (by assumption) (by assumption)))).trans ?_)) (by rfl) ?_
  refine r_iload_n dJ5_or_90 rfl ?_
  first | refine r_aload_n dJ5_or_91 rfl ?_ | refine r_aload_nq dJ5_or_91 rfl ?_ | refine r_aload_nN dJ5_or_91 rfl ?_
  refine r_getfield 12 1 dJ5_or_92 rfl (Nat.le_of_ble_eq_true rfl) (lkA q196) (Or.inl rfl) (by first | exact Or.inl (by assumption) | assumption | (refine Or.inl ?_; repeat' first | assumption | exact hu_s | refine hu_o (by assumption) ?_ | refine (hu_n (by first | assumption | exact Ne.symm (by assumption) | exact ne_o (by assumption) (by assumption) | exact Ne.symm (ne_o (by assumption) (by assumption)))).trans ?_)) (by rfl) ?_
  refine r_iload_n dJ5_or_95 rfl ?_
  refine r_isub dJ5_or_96 ?_
  refine r_copyL 0 0 1 dJ5_or_97 (lkA q480) (lkA q294) (lkA q293) (lkA q76) (Or.inl ((hu_n ewb).trans hwb)) ((hu_n ewa).trans hwa) rfl rfl rfl (by decide) (by decide) (by decide) (by decide) ?_
  first | refine r_aload_n dJ5_or_100 rfl ?_ | refine r_aload_nq dJ5_or_100 rfl ?_ | refine r_aload_nN dJ5_or_100 rfl ?_
  refine r_invV dJ5_or_101 (sp_J5_checkInvariants hK) rfl mo_J5_checkInvariants (Or.inl ((hu_n (Ne.symm ewa)).trans hu_s)) rfl (lkA q481) (lkA q483) (lkA qs5) rfl (lkA q72) mp_J5_checkInvariants (Nat.le_of_ble_eq_true rfl) (Nat.le_of_ble_eq_true rfl) (Nat.le_of_ble_eq_true rfl) (kr_e ?_) kx_e
  exact r_return dJ5_or_104 rfl ⟨rfl, by rw [fWd_c]⟩

