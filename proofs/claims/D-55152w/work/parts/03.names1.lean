/-! DECODE ROWS BY BYTES: one lemma an opcode; a method's code is cut into short pieces once, and a row reads its own piece alone. -/
set_option maxRecDepth 100000
/-- the code has just these bytes from pc on -/
def DkAt (code : ByteArray) (pc : Nat) (bs : List UInt8) : Prop := ∀ (j : Nat) (b : UInt8), bs[j]? = some b → code.data.toList[pc + j]? = some b
/-- the piece W has the bytes bs from its place j on -/
def dkIn (W : List UInt8) (j : Nat) (bs : List UInt8) : Bool := decide ((W.drop j).take bs.length = bs)
theorem dk_seg {l W T : List UInt8} {o o2 : Nat} (h : l.drop o = W ++ T) (n : Nat) (hn : W.length = n) (ho : o + n = o2) : l.drop o2 = T := by
  subst ho
  rw [← List.drop_drop, h, List.drop_left' hn]
theorem dk_at {code : ByteArray} {W T bs : List UInt8} {o pc : Nat} (h : code.data.toList.drop o = W ++ T) (j : Nat) (hp : o + j = pc) (hw : dkIn W j bs = true) : DkAt code pc bs := by
  subst hp
  intro i b e
  have h1 := of_decide_eq_true hw
  have h2 : i < bs.length := (List.getElem?_eq_some_iff.mp e).1
  have h3 : W[j + i]? = some b := by
    rw [← h1, List.getElem?_take, if_pos h2, List.getElem?_drop] at e
    exact e
  have h4 : j + i < W.length := (List.getElem?_eq_some_iff.mp h3).1
  have h5 : (code.data.toList.drop o)[j + i]? = some b := by
    rw [h, List.getElem?_append_left h4]
    exact h3
  rw [List.getElem?_drop, ← Nat.add_assoc] at h5
  exact h5
theorem dk_u1 {A : ByteArray} {p : Nat} {b : UInt8} (h : A.data.toList[p]? = some b) : (Reader.u1 : Reader DecodeError Nat) A p = .ok (b.toNat, p + 1) := by
  obtain ⟨h1, h2⟩ := List.getElem?_eq_some_iff.mp h
  have h3 : p < A.size := by simpa using h1
  have h4 : A[p]'h3 = b := h2
  have e : (Reader.u1 : Reader DecodeError Nat) A p = (if h : p < A.size then .ok (A[p].toNat, p + 1) else .error (HasTruncated.truncated p)) := by
    show (do if h : p < A.size then do set (p + 1); Pure.pure A[p].toNat else MonadExcept.throw (HasTruncated.truncated p) : Reader DecodeError Nat) A p = _
    by_cases hi : p < A.size
    · rw [dif_pos hi, dif_pos hi]; rfl
    · rw [dif_neg hi, dif_neg hi]; rfl
  rw [e, dif_pos h3, h4]
theorem dk_bind {α β : Type} {r : Reader DecodeError α} {f : α → Reader DecodeError β} {A : ByteArray} {p s : Nat} {a : α} (h : r A p = .ok (a, s)) : (r >>= f) A p = f a A s := by
  show (do let (a, s) ← r A p; f a A s : Except DecodeError (β × Nat)) = _
  rw [h]
  rfl
theorem dk_map {α β : Type} {r : Reader DecodeError α} {g : α → β} {A : ByteArray} {p s : Nat} {a : α} (h : r A p = .ok (a, s)) : (g <$> r) A p = .ok (g a, s) := by
  show (do let (a, s) ← r A p; .ok (g a, s) : Except DecodeError (β × Nat)) = _
  rw [h]
  rfl
theorem dk_u2 {A : ByteArray} {p : Nat} {a b : UInt8} (h : A.data.toList[p]? = some a) (h2 : A.data.toList[p + 1]? = some b) : (Reader.u2 : Reader DecodeError Nat) A p = .ok (a.toNat * 256 + b.toNat, p + 2) := by
  show (Reader.u1 >>= fun hi => Reader.u1 >>= fun lo => Pure.pure (hi * 256 + lo) : Reader DecodeError Nat) A p = _
  rw [dk_bind (dk_u1 h), dk_bind (dk_u1 h2)]
  rfl
theorem dk_of {code : ByteArray} {pc n : Nat} {i : Instr} (h : Decoder.instr pc code pc = .ok (i, pc + n)) : decode code pc = .ok (i, n) := by
  have e : decode code pc = (match Decoder.instr pc code pc with | .error x => .error x | .ok (j, s) => .ok (j, s - pc)) := by
    show (do let (j, s) ← Decoder.instr pc code pc; Pure.pure (j, s - pc) : Except DecodeError (Instr × Nat)) = _
    cases Decoder.instr pc code pc <;> rfl
  rw [e, h]
  show Except.ok (i, pc + n - pc) = _
  rw [Nat.add_sub_cancel_left]
theorem dk_1 {code : ByteArray} {pc : Nat} (h : DkAt code pc [1]) : decode code pc = .ok (.aconst_null, 1) := dk_of ((dk_bind (dk_u1 (h 0 _ rfl))).trans rfl)
theorem dk_2 {code : ByteArray} {pc : Nat} (h : DkAt code pc [2]) : decode code pc = .ok (.iconst (-1), 1) := dk_of ((dk_bind (dk_u1 (h 0 _ rfl))).trans rfl)
theorem dk_3 {code : ByteArray} {pc : Nat} (h : DkAt code pc [3]) : decode code pc = .ok (.iconst 0, 1) := dk_of ((dk_bind (dk_u1 (h 0 _ rfl))).trans rfl)
theorem dk_4 {code : ByteArray} {pc : Nat} (h : DkAt code pc [4]) : decode code pc = .ok (.iconst 1, 1) := dk_of ((dk_bind (dk_u1 (h 0 _ rfl))).trans rfl)
theorem dk_5 {code : ByteArray} {pc : Nat} (h : DkAt code pc [5]) : decode code pc = .ok (.iconst 2, 1) := dk_of ((dk_bind (dk_u1 (h 0 _ rfl))).trans rfl)
theorem dk_6 {code : ByteArray} {pc : Nat} (h : DkAt code pc [6]) : decode code pc = .ok (.iconst 3, 1) := dk_of ((dk_bind (dk_u1 (h 0 _ rfl))).trans rfl)
theorem dk_7 {code : ByteArray} {pc : Nat} (h : DkAt code pc [7]) : decode code pc = .ok (.iconst 4, 1) := dk_of ((dk_bind (dk_u1 (h 0 _ rfl))).trans rfl)
theorem dk_8 {code : ByteArray} {pc : Nat} (h : DkAt code pc [8]) : decode code pc = .ok (.iconst 5, 1) := dk_of ((dk_bind (dk_u1 (h 0 _ rfl))).trans rfl)
theorem dk_9 {code : ByteArray} {pc : Nat} (h : DkAt code pc [9]) : decode code pc = .ok (.lconst 0, 1) := dk_of ((dk_bind (dk_u1 (h 0 _ rfl))).trans rfl)
theorem dk_10 {code : ByteArray} {pc : Nat} (h : DkAt code pc [10]) : decode code pc = .ok (.lconst 1, 1) := dk_of ((dk_bind (dk_u1 (h 0 _ rfl))).trans rfl)
theorem dk_11 {code : ByteArray} {pc : Nat} (h : DkAt code pc [11]) : decode code pc = .ok (.fconst 0, 1) := dk_of ((dk_bind (dk_u1 (h 0 _ rfl))).trans rfl)
theorem dk_16 {code : ByteArray} {pc : Nat} (a : UInt8) (h : DkAt code pc [16, a]) : decode code pc = .ok (.bipush (Reader.signed 8 a.toNat), 2) := dk_of ((dk_bind (dk_u1 (h 0 _ rfl))).trans ((dk_bind (dk_map (dk_u1 (h 1 _ rfl)))).trans rfl))
theorem dk_17 {code : ByteArray} {pc : Nat} (a b : UInt8) (h : DkAt code pc [17, a, b]) : decode code pc = .ok (.sipush (Reader.signed 16 (a.toNat * 256 + b.toNat)), 3) := dk_of ((dk_bind (dk_u1 (h 0 _ rfl))).trans ((dk_bind (dk_map (dk_u2 (h 1 _ rfl) (h 2 _ rfl)))).trans rfl))
theorem dk_18 {code : ByteArray} {pc : Nat} (a : UInt8) (h : DkAt code pc [18, a]) : decode code pc = .ok (.ldc a.toNat, 2) := dk_of ((dk_bind (dk_u1 (h 0 _ rfl))).trans ((dk_bind (dk_u1 (h 1 _ rfl))).trans rfl))
theorem dk_19 {code : ByteArray} {pc : Nat} (a b : UInt8) (h : DkAt code pc [19, a, b]) : decode code pc = .ok (.ldc_w (a.toNat * 256 + b.toNat), 3) := dk_of ((dk_bind (dk_u1 (h 0 _ rfl))).trans ((dk_bind (dk_u2 (h 1 _ rfl) (h 2 _ rfl))).trans rfl))
theorem dk_20 {code : ByteArray} {pc : Nat} (a b : UInt8) (h : DkAt code pc [20, a, b]) : decode code pc = .ok (.ldc2_w (a.toNat * 256 + b.toNat), 3) := dk_of ((dk_bind (dk_u1 (h 0 _ rfl))).trans ((dk_bind (dk_u2 (h 1 _ rfl) (h 2 _ rfl))).trans rfl))
theorem dk_21 {code : ByteArray} {pc : Nat} (a : UInt8) (h : DkAt code pc [21, a]) : decode code pc = .ok (.iload a.toNat, 2) := dk_of ((dk_bind (dk_u1 (h 0 _ rfl))).trans ((dk_bind (dk_u1 (h 1 _ rfl))).trans rfl))
theorem dk_24 {code : ByteArray} {pc : Nat} (a : UInt8) (h : DkAt code pc [24, a]) : decode code pc = .ok (.dload a.toNat, 2) := dk_of ((dk_bind (dk_u1 (h 0 _ rfl))).trans ((dk_bind (dk_u1 (h 1 _ rfl))).trans rfl))
theorem dk_25 {code : ByteArray} {pc : Nat} (a : UInt8) (h : DkAt code pc [25, a]) : decode code pc = .ok (.aload a.toNat, 2) := dk_of ((dk_bind (dk_u1 (h 0 _ rfl))).trans ((dk_bind (dk_u1 (h 1 _ rfl))).trans rfl))
theorem dk_26 {code : ByteArray} {pc : Nat} (h : DkAt code pc [26]) : decode code pc = .ok (.iload_n 0, 1) := dk_of ((dk_bind (dk_u1 (h 0 _ rfl))).trans rfl)
theorem dk_27 {code : ByteArray} {pc : Nat} (h : DkAt code pc [27]) : decode code pc = .ok (.iload_n 1, 1) := dk_of ((dk_bind (dk_u1 (h 0 _ rfl))).trans rfl)
theorem dk_28 {code : ByteArray} {pc : Nat} (h : DkAt code pc [28]) : decode code pc = .ok (.iload_n 2, 1) := dk_of ((dk_bind (dk_u1 (h 0 _ rfl))).trans rfl)
theorem dk_29 {code : ByteArray} {pc : Nat} (h : DkAt code pc [29]) : decode code pc = .ok (.iload_n 3, 1) := dk_of ((dk_bind (dk_u1 (h 0 _ rfl))).trans rfl)
theorem dk_30 {code : ByteArray} {pc : Nat} (h : DkAt code pc [30]) : decode code pc = .ok (.lload_n 0, 1) := dk_of ((dk_bind (dk_u1 (h 0 _ rfl))).trans rfl)
theorem dk_33 {code : ByteArray} {pc : Nat} (h : DkAt code pc [33]) : decode code pc = .ok (.lload_n 3, 1) := dk_of ((dk_bind (dk_u1 (h 0 _ rfl))).trans rfl)
theorem dk_42 {code : ByteArray} {pc : Nat} (h : DkAt code pc [42]) : decode code pc = .ok (.aload_n 0, 1) := dk_of ((dk_bind (dk_u1 (h 0 _ rfl))).trans rfl)
theorem dk_43 {code : ByteArray} {pc : Nat} (h : DkAt code pc [43]) : decode code pc = .ok (.aload_n 1, 1) := dk_of ((dk_bind (dk_u1 (h 0 _ rfl))).trans rfl)
theorem dk_44 {code : ByteArray} {pc : Nat} (h : DkAt code pc [44]) : decode code pc = .ok (.aload_n 2, 1) := dk_of ((dk_bind (dk_u1 (h 0 _ rfl))).trans rfl)
theorem dk_45 {code : ByteArray} {pc : Nat} (h : DkAt code pc [45]) : decode code pc = .ok (.aload_n 3, 1) := dk_of ((dk_bind (dk_u1 (h 0 _ rfl))).trans rfl)
theorem dk_46 {code : ByteArray} {pc : Nat} (h : DkAt code pc [46]) : decode code pc = .ok (.iaload, 1) := dk_of ((dk_bind (dk_u1 (h 0 _ rfl))).trans rfl)
theorem dk_47 {code : ByteArray} {pc : Nat} (h : DkAt code pc [47]) : decode code pc = .ok (.laload, 1) := dk_of ((dk_bind (dk_u1 (h 0 _ rfl))).trans rfl)
theorem dk_50 {code : ByteArray} {pc : Nat} (h : DkAt code pc [50]) : decode code pc = .ok (.aaload, 1) := dk_of ((dk_bind (dk_u1 (h 0 _ rfl))).trans rfl)
theorem dk_51 {code : ByteArray} {pc : Nat} (h : DkAt code pc [51]) : decode code pc = .ok (.baload, 1) := dk_of ((dk_bind (dk_u1 (h 0 _ rfl))).trans rfl)
theorem dk_52 {code : ByteArray} {pc : Nat} (h : DkAt code pc [52]) : decode code pc = .ok (.caload, 1) := dk_of ((dk_bind (dk_u1 (h 0 _ rfl))).trans rfl)
theorem dk_53 {code : ByteArray} {pc : Nat} (h : DkAt code pc [53]) : decode code pc = .ok (.saload, 1) := dk_of ((dk_bind (dk_u1 (h 0 _ rfl))).trans rfl)
theorem dk_54 {code : ByteArray} {pc : Nat} (a : UInt8) (h : DkAt code pc [54, a]) : decode code pc = .ok (.istore a.toNat, 2) := dk_of ((dk_bind (dk_u1 (h 0 _ rfl))).trans ((dk_bind (dk_u1 (h 1 _ rfl))).trans rfl))
theorem dk_57 {code : ByteArray} {pc : Nat} (a : UInt8) (h : DkAt code pc [57, a]) : decode code pc = .ok (.dstore a.toNat, 2) := dk_of ((dk_bind (dk_u1 (h 0 _ rfl))).trans ((dk_bind (dk_u1 (h 1 _ rfl))).trans rfl))
theorem dk_58 {code : ByteArray} {pc : Nat} (a : UInt8) (h : DkAt code pc [58, a]) : decode code pc = .ok (.astore a.toNat, 2) := dk_of ((dk_bind (dk_u1 (h 0 _ rfl))).trans ((dk_bind (dk_u1 (h 1 _ rfl))).trans rfl))
theorem dk_59 {code : ByteArray} {pc : Nat} (h : DkAt code pc [59]) : decode code pc = .ok (.istore_n 0, 1) := dk_of ((dk_bind (dk_u1 (h 0 _ rfl))).trans rfl)
theorem dk_60 {code : ByteArray} {pc : Nat} (h : DkAt code pc [60]) : decode code pc = .ok (.istore_n 1, 1) := dk_of ((dk_bind (dk_u1 (h 0 _ rfl))).trans rfl)
theorem dk_61 {code : ByteArray} {pc : Nat} (h : DkAt code pc [61]) : decode code pc = .ok (.istore_n 2, 1) := dk_of ((dk_bind (dk_u1 (h 0 _ rfl))).trans rfl)
theorem dk_62 {code : ByteArray} {pc : Nat} (h : DkAt code pc [62]) : decode code pc = .ok (.istore_n 3, 1) := dk_of ((dk_bind (dk_u1 (h 0 _ rfl))).trans rfl)
theorem dk_66 {code : ByteArray} {pc : Nat} (h : DkAt code pc [66]) : decode code pc = .ok (.lstore_n 3, 1) := dk_of ((dk_bind (dk_u1 (h 0 _ rfl))).trans rfl)
theorem dk_76 {code : ByteArray} {pc : Nat} (h : DkAt code pc [76]) : decode code pc = .ok (.astore_n 1, 1) := dk_of ((dk_bind (dk_u1 (h 0 _ rfl))).trans rfl)
theorem dk_77 {code : ByteArray} {pc : Nat} (h : DkAt code pc [77]) : decode code pc = .ok (.astore_n 2, 1) := dk_of ((dk_bind (dk_u1 (h 0 _ rfl))).trans rfl)
theorem dk_78 {code : ByteArray} {pc : Nat} (h : DkAt code pc [78]) : decode code pc = .ok (.astore_n 3, 1) := dk_of ((dk_bind (dk_u1 (h 0 _ rfl))).trans rfl)
theorem dk_79 {code : ByteArray} {pc : Nat} (h : DkAt code pc [79]) : decode code pc = .ok (.iastore, 1) := dk_of ((dk_bind (dk_u1 (h 0 _ rfl))).trans rfl)
theorem dk_80 {code : ByteArray} {pc : Nat} (h : DkAt code pc [80]) : decode code pc = .ok (.lastore, 1) := dk_of ((dk_bind (dk_u1 (h 0 _ rfl))).trans rfl)
theorem dk_83 {code : ByteArray} {pc : Nat} (h : DkAt code pc [83]) : decode code pc = .ok (.aastore, 1) := dk_of ((dk_bind (dk_u1 (h 0 _ rfl))).trans rfl)
theorem dk_84 {code : ByteArray} {pc : Nat} (h : DkAt code pc [84]) : decode code pc = .ok (.bastore, 1) := dk_of ((dk_bind (dk_u1 (h 0 _ rfl))).trans rfl)
theorem dk_87 {code : ByteArray} {pc : Nat} (h : DkAt code pc [87]) : decode code pc = .ok (.pop, 1) := dk_of ((dk_bind (dk_u1 (h 0 _ rfl))).trans rfl)
theorem dk_89 {code : ByteArray} {pc : Nat} (h : DkAt code pc [89]) : decode code pc = .ok (.dup, 1) := dk_of ((dk_bind (dk_u1 (h 0 _ rfl))).trans rfl)
theorem dk_90 {code : ByteArray} {pc : Nat} (h : DkAt code pc [90]) : decode code pc = .ok (.dup_x1, 1) := dk_of ((dk_bind (dk_u1 (h 0 _ rfl))).trans rfl)
theorem dk_91 {code : ByteArray} {pc : Nat} (h : DkAt code pc [91]) : decode code pc = .ok (.dup_x2, 1) := dk_of ((dk_bind (dk_u1 (h 0 _ rfl))).trans rfl)
theorem dk_92 {code : ByteArray} {pc : Nat} (h : DkAt code pc [92]) : decode code pc = .ok (.dup2, 1) := dk_of ((dk_bind (dk_u1 (h 0 _ rfl))).trans rfl)
theorem dk_96 {code : ByteArray} {pc : Nat} (h : DkAt code pc [96]) : decode code pc = .ok (.iadd, 1) := dk_of ((dk_bind (dk_u1 (h 0 _ rfl))).trans rfl)
theorem dk_100 {code : ByteArray} {pc : Nat} (h : DkAt code pc [100]) : decode code pc = .ok (.isub, 1) := dk_of ((dk_bind (dk_u1 (h 0 _ rfl))).trans rfl)
theorem dk_104 {code : ByteArray} {pc : Nat} (h : DkAt code pc [104]) : decode code pc = .ok (.imul, 1) := dk_of ((dk_bind (dk_u1 (h 0 _ rfl))).trans rfl)
theorem dk_108 {code : ByteArray} {pc : Nat} (h : DkAt code pc [108]) : decode code pc = .ok (.idiv, 1) := dk_of ((dk_bind (dk_u1 (h 0 _ rfl))).trans rfl)
theorem dk_110 {code : ByteArray} {pc : Nat} (h : DkAt code pc [110]) : decode code pc = .ok (.fdiv, 1) := dk_of ((dk_bind (dk_u1 (h 0 _ rfl))).trans rfl)
theorem dk_111 {code : ByteArray} {pc : Nat} (h : DkAt code pc [111]) : decode code pc = .ok (.ddiv, 1) := dk_of ((dk_bind (dk_u1 (h 0 _ rfl))).trans rfl)
theorem dk_112 {code : ByteArray} {pc : Nat} (h : DkAt code pc [112]) : decode code pc = .ok (.irem, 1) := dk_of ((dk_bind (dk_u1 (h 0 _ rfl))).trans rfl)
theorem dk_116 {code : ByteArray} {pc : Nat} (h : DkAt code pc [116]) : decode code pc = .ok (.ineg, 1) := dk_of ((dk_bind (dk_u1 (h 0 _ rfl))).trans rfl)
theorem dk_120 {code : ByteArray} {pc : Nat} (h : DkAt code pc [120]) : decode code pc = .ok (.ishl, 1) := dk_of ((dk_bind (dk_u1 (h 0 _ rfl))).trans rfl)
theorem dk_121 {code : ByteArray} {pc : Nat} (h : DkAt code pc [121]) : decode code pc = .ok (.lshl, 1) := dk_of ((dk_bind (dk_u1 (h 0 _ rfl))).trans rfl)
theorem dk_122 {code : ByteArray} {pc : Nat} (h : DkAt code pc [122]) : decode code pc = .ok (.ishr, 1) := dk_of ((dk_bind (dk_u1 (h 0 _ rfl))).trans rfl)
theorem dk_124 {code : ByteArray} {pc : Nat} (h : DkAt code pc [124]) : decode code pc = .ok (.iushr, 1) := dk_of ((dk_bind (dk_u1 (h 0 _ rfl))).trans rfl)
theorem dk_125 {code : ByteArray} {pc : Nat} (h : DkAt code pc [125]) : decode code pc = .ok (.lushr, 1) := dk_of ((dk_bind (dk_u1 (h 0 _ rfl))).trans rfl)
theorem dk_126 {code : ByteArray} {pc : Nat} (h : DkAt code pc [126]) : decode code pc = .ok (.iand, 1) := dk_of ((dk_bind (dk_u1 (h 0 _ rfl))).trans rfl)
theorem dk_127 {code : ByteArray} {pc : Nat} (h : DkAt code pc [127]) : decode code pc = .ok (.land, 1) := dk_of ((dk_bind (dk_u1 (h 0 _ rfl))).trans rfl)
theorem dk_128 {code : ByteArray} {pc : Nat} (h : DkAt code pc [128]) : decode code pc = .ok (.ior, 1) := dk_of ((dk_bind (dk_u1 (h 0 _ rfl))).trans rfl)
theorem dk_129 {code : ByteArray} {pc : Nat} (h : DkAt code pc [129]) : decode code pc = .ok (.lor, 1) := dk_of ((dk_bind (dk_u1 (h 0 _ rfl))).trans rfl)
theorem dk_130 {code : ByteArray} {pc : Nat} (h : DkAt code pc [130]) : decode code pc = .ok (.ixor, 1) := dk_of ((dk_bind (dk_u1 (h 0 _ rfl))).trans rfl)
theorem dk_132 {code : ByteArray} {pc : Nat} (a b : UInt8) (h : DkAt code pc [132, a, b]) : decode code pc = .ok (.iinc a.toNat (Reader.signed 8 b.toNat), 3) := dk_of ((dk_bind (dk_u1 (h 0 _ rfl))).trans ((dk_bind (dk_u1 (h 1 _ rfl))).trans ((dk_bind (dk_map (dk_u1 (h 2 _ rfl)))).trans rfl)))
theorem dk_134 {code : ByteArray} {pc : Nat} (h : DkAt code pc [134]) : decode code pc = .ok (.i2f, 1) := dk_of ((dk_bind (dk_u1 (h 0 _ rfl))).trans rfl)
theorem dk_135 {code : ByteArray} {pc : Nat} (h : DkAt code pc [135]) : decode code pc = .ok (.i2d, 1) := dk_of ((dk_bind (dk_u1 (h 0 _ rfl))).trans rfl)
theorem dk_136 {code : ByteArray} {pc : Nat} (h : DkAt code pc [136]) : decode code pc = .ok (.l2i, 1) := dk_of ((dk_bind (dk_u1 (h 0 _ rfl))).trans rfl)
theorem dk_141 {code : ByteArray} {pc : Nat} (h : DkAt code pc [141]) : decode code pc = .ok (.f2d, 1) := dk_of ((dk_bind (dk_u1 (h 0 _ rfl))).trans rfl)
theorem dk_145 {code : ByteArray} {pc : Nat} (h : DkAt code pc [145]) : decode code pc = .ok (.i2b, 1) := dk_of ((dk_bind (dk_u1 (h 0 _ rfl))).trans rfl)
theorem dk_146 {code : ByteArray} {pc : Nat} (h : DkAt code pc [146]) : decode code pc = .ok (.i2c, 1) := dk_of ((dk_bind (dk_u1 (h 0 _ rfl))).trans rfl)
theorem dk_148 {code : ByteArray} {pc : Nat} (h : DkAt code pc [148]) : decode code pc = .ok (.lcmp, 1) := dk_of ((dk_bind (dk_u1 (h 0 _ rfl))).trans rfl)
theorem dk_151 {code : ByteArray} {pc : Nat} (h : DkAt code pc [151]) : decode code pc = .ok (.dcmp .l, 1) := dk_of ((dk_bind (dk_u1 (h 0 _ rfl))).trans rfl)
theorem dk_153 {code : ByteArray} {pc : Nat} (a b : UInt8) (h : DkAt code pc [153, a, b]) : decode code pc = .ok (.ifCond .eq (Reader.signed 16 (a.toNat * 256 + b.toNat)), 3) := dk_of ((dk_bind (dk_u1 (h 0 _ rfl))).trans ((dk_bind (dk_map (dk_u2 (h 1 _ rfl) (h 2 _ rfl)))).trans rfl))
theorem dk_154 {code : ByteArray} {pc : Nat} (a b : UInt8) (h : DkAt code pc [154, a, b]) : decode code pc = .ok (.ifCond .ne (Reader.signed 16 (a.toNat * 256 + b.toNat)), 3) := dk_of ((dk_bind (dk_u1 (h 0 _ rfl))).trans ((dk_bind (dk_map (dk_u2 (h 1 _ rfl) (h 2 _ rfl)))).trans rfl))
theorem dk_155 {code : ByteArray} {pc : Nat} (a b : UInt8) (h : DkAt code pc [155, a, b]) : decode code pc = .ok (.ifCond .lt (Reader.signed 16 (a.toNat * 256 + b.toNat)), 3) := dk_of ((dk_bind (dk_u1 (h 0 _ rfl))).trans ((dk_bind (dk_map (dk_u2 (h 1 _ rfl) (h 2 _ rfl)))).trans rfl))
theorem dk_156 {code : ByteArray} {pc : Nat} (a b : UInt8) (h : DkAt code pc [156, a, b]) : decode code pc = .ok (.ifCond .ge (Reader.signed 16 (a.toNat * 256 + b.toNat)), 3) := dk_of ((dk_bind (dk_u1 (h 0 _ rfl))).trans ((dk_bind (dk_map (dk_u2 (h 1 _ rfl) (h 2 _ rfl)))).trans rfl))
theorem dk_157 {code : ByteArray} {pc : Nat} (a b : UInt8) (h : DkAt code pc [157, a, b]) : decode code pc = .ok (.ifCond .gt (Reader.signed 16 (a.toNat * 256 + b.toNat)), 3) := dk_of ((dk_bind (dk_u1 (h 0 _ rfl))).trans ((dk_bind (dk_map (dk_u2 (h 1 _ rfl) (h 2 _ rfl)))).trans rfl))
theorem dk_158 {code : ByteArray} {pc : Nat} (a b : UInt8) (h : DkAt code pc [158, a, b]) : decode code pc = .ok (.ifCond .le (Reader.signed 16 (a.toNat * 256 + b.toNat)), 3) := dk_of ((dk_bind (dk_u1 (h 0 _ rfl))).trans ((dk_bind (dk_map (dk_u2 (h 1 _ rfl) (h 2 _ rfl)))).trans rfl))
theorem dk_159 {code : ByteArray} {pc : Nat} (a b : UInt8) (h : DkAt code pc [159, a, b]) : decode code pc = .ok (.if_icmp .eq (Reader.signed 16 (a.toNat * 256 + b.toNat)), 3) := dk_of ((dk_bind (dk_u1 (h 0 _ rfl))).trans ((dk_bind (dk_map (dk_u2 (h 1 _ rfl) (h 2 _ rfl)))).trans rfl))
theorem dk_160 {code : ByteArray} {pc : Nat} (a b : UInt8) (h : DkAt code pc [160, a, b]) : decode code pc = .ok (.if_icmp .ne (Reader.signed 16 (a.toNat * 256 + b.toNat)), 3) := dk_of ((dk_bind (dk_u1 (h 0 _ rfl))).trans ((dk_bind (dk_map (dk_u2 (h 1 _ rfl) (h 2 _ rfl)))).trans rfl))
theorem dk_161 {code : ByteArray} {pc : Nat} (a b : UInt8) (h : DkAt code pc [161, a, b]) : decode code pc = .ok (.if_icmp .lt (Reader.signed 16 (a.toNat * 256 + b.toNat)), 3) := dk_of ((dk_bind (dk_u1 (h 0 _ rfl))).trans ((dk_bind (dk_map (dk_u2 (h 1 _ rfl) (h 2 _ rfl)))).trans rfl))
theorem dk_162 {code : ByteArray} {pc : Nat} (a b : UInt8) (h : DkAt code pc [162, a, b]) : decode code pc = .ok (.if_icmp .ge (Reader.signed 16 (a.toNat * 256 + b.toNat)), 3) := dk_of ((dk_bind (dk_u1 (h 0 _ rfl))).trans ((dk_bind (dk_map (dk_u2 (h 1 _ rfl) (h 2 _ rfl)))).trans rfl))
theorem dk_163 {code : ByteArray} {pc : Nat} (a b : UInt8) (h : DkAt code pc [163, a, b]) : decode code pc = .ok (.if_icmp .gt (Reader.signed 16 (a.toNat * 256 + b.toNat)), 3) := dk_of ((dk_bind (dk_u1 (h 0 _ rfl))).trans ((dk_bind (dk_map (dk_u2 (h 1 _ rfl) (h 2 _ rfl)))).trans rfl))
theorem dk_164 {code : ByteArray} {pc : Nat} (a b : UInt8) (h : DkAt code pc [164, a, b]) : decode code pc = .ok (.if_icmp .le (Reader.signed 16 (a.toNat * 256 + b.toNat)), 3) := dk_of ((dk_bind (dk_u1 (h 0 _ rfl))).trans ((dk_bind (dk_map (dk_u2 (h 1 _ rfl) (h 2 _ rfl)))).trans rfl))
theorem dk_165 {code : ByteArray} {pc : Nat} (a b : UInt8) (h : DkAt code pc [165, a, b]) : decode code pc = .ok (.if_acmp .eq (Reader.signed 16 (a.toNat * 256 + b.toNat)), 3) := dk_of ((dk_bind (dk_u1 (h 0 _ rfl))).trans ((dk_bind (dk_map (dk_u2 (h 1 _ rfl) (h 2 _ rfl)))).trans rfl))
theorem dk_166 {code : ByteArray} {pc : Nat} (a b : UInt8) (h : DkAt code pc [166, a, b]) : decode code pc = .ok (.if_acmp .ne (Reader.signed 16 (a.toNat * 256 + b.toNat)), 3) := dk_of ((dk_bind (dk_u1 (h 0 _ rfl))).trans ((dk_bind (dk_map (dk_u2 (h 1 _ rfl) (h 2 _ rfl)))).trans rfl))
theorem dk_167 {code : ByteArray} {pc : Nat} (a b : UInt8) (h : DkAt code pc [167, a, b]) : decode code pc = .ok (.goto (Reader.signed 16 (a.toNat * 256 + b.toNat)), 3) := dk_of ((dk_bind (dk_u1 (h 0 _ rfl))).trans ((dk_bind (dk_map (dk_u2 (h 1 _ rfl) (h 2 _ rfl)))).trans rfl))
theorem dk_172 {code : ByteArray} {pc : Nat} (h : DkAt code pc [172]) : decode code pc = .ok (.ireturn, 1) := dk_of ((dk_bind (dk_u1 (h 0 _ rfl))).trans rfl)
theorem dk_174 {code : ByteArray} {pc : Nat} (h : DkAt code pc [174]) : decode code pc = .ok (.freturn, 1) := dk_of ((dk_bind (dk_u1 (h 0 _ rfl))).trans rfl)
theorem dk_175 {code : ByteArray} {pc : Nat} (h : DkAt code pc [175]) : decode code pc = .ok (.dreturn, 1) := dk_of ((dk_bind (dk_u1 (h 0 _ rfl))).trans rfl)
theorem dk_176 {code : ByteArray} {pc : Nat} (h : DkAt code pc [176]) : decode code pc = .ok (.areturn, 1) := dk_of ((dk_bind (dk_u1 (h 0 _ rfl))).trans rfl)
theorem dk_177 {code : ByteArray} {pc : Nat} (h : DkAt code pc [177]) : decode code pc = .ok (.return_, 1) := dk_of ((dk_bind (dk_u1 (h 0 _ rfl))).trans rfl)
theorem dk_178 {code : ByteArray} {pc : Nat} (a b : UInt8) (h : DkAt code pc [178, a, b]) : decode code pc = .ok (.getstatic (a.toNat * 256 + b.toNat), 3) := dk_of ((dk_bind (dk_u1 (h 0 _ rfl))).trans ((dk_bind (dk_u2 (h 1 _ rfl) (h 2 _ rfl))).trans rfl))
theorem dk_180 {code : ByteArray} {pc : Nat} (a b : UInt8) (h : DkAt code pc [180, a, b]) : decode code pc = .ok (.getfield (a.toNat * 256 + b.toNat), 3) := dk_of ((dk_bind (dk_u1 (h 0 _ rfl))).trans ((dk_bind (dk_u2 (h 1 _ rfl) (h 2 _ rfl))).trans rfl))
theorem dk_181 {code : ByteArray} {pc : Nat} (a b : UInt8) (h : DkAt code pc [181, a, b]) : decode code pc = .ok (.putfield (a.toNat * 256 + b.toNat), 3) := dk_of ((dk_bind (dk_u1 (h 0 _ rfl))).trans ((dk_bind (dk_u2 (h 1 _ rfl) (h 2 _ rfl))).trans rfl))
theorem dk_182 {code : ByteArray} {pc : Nat} (a b : UInt8) (h : DkAt code pc [182, a, b]) : decode code pc = .ok (.invokevirtual (a.toNat * 256 + b.toNat), 3) := dk_of ((dk_bind (dk_u1 (h 0 _ rfl))).trans ((dk_bind (dk_u2 (h 1 _ rfl) (h 2 _ rfl))).trans rfl))
theorem dk_183 {code : ByteArray} {pc : Nat} (a b : UInt8) (h : DkAt code pc [183, a, b]) : decode code pc = .ok (.invokespecial (a.toNat * 256 + b.toNat), 3) := dk_of ((dk_bind (dk_u1 (h 0 _ rfl))).trans ((dk_bind (dk_u2 (h 1 _ rfl) (h 2 _ rfl))).trans rfl))
theorem dk_184 {code : ByteArray} {pc : Nat} (a b : UInt8) (h : DkAt code pc [184, a, b]) : decode code pc = .ok (.invokestatic (a.toNat * 256 + b.toNat), 3) := dk_of ((dk_bind (dk_u1 (h 0 _ rfl))).trans ((dk_bind (dk_u2 (h 1 _ rfl) (h 2 _ rfl))).trans rfl))
theorem dk_187 {code : ByteArray} {pc : Nat} (a b : UInt8) (h : DkAt code pc [187, a, b]) : decode code pc = .ok (.new (a.toNat * 256 + b.toNat), 3) := dk_of ((dk_bind (dk_u1 (h 0 _ rfl))).trans ((dk_bind (dk_u2 (h 1 _ rfl) (h 2 _ rfl))).trans rfl))
theorem dk_188_8 {code : ByteArray} {pc : Nat} (h : DkAt code pc [188, 8]) : decode code pc = .ok (.newarray .byte, 2) := dk_of ((dk_bind (dk_u1 (h 0 _ rfl))).trans ((dk_bind (dk_u1 (h 1 _ rfl))).trans rfl))
theorem dk_188_10 {code : ByteArray} {pc : Nat} (h : DkAt code pc [188, 10]) : decode code pc = .ok (.newarray .int, 2) := dk_of ((dk_bind (dk_u1 (h 0 _ rfl))).trans ((dk_bind (dk_u1 (h 1 _ rfl))).trans rfl))
theorem dk_188_11 {code : ByteArray} {pc : Nat} (h : DkAt code pc [188, 11]) : decode code pc = .ok (.newarray .long, 2) := dk_of ((dk_bind (dk_u1 (h 0 _ rfl))).trans ((dk_bind (dk_u1 (h 1 _ rfl))).trans rfl))
theorem dk_189 {code : ByteArray} {pc : Nat} (a b : UInt8) (h : DkAt code pc [189, a, b]) : decode code pc = .ok (.anewarray (a.toNat * 256 + b.toNat), 3) := dk_of ((dk_bind (dk_u1 (h 0 _ rfl))).trans ((dk_bind (dk_u2 (h 1 _ rfl) (h 2 _ rfl))).trans rfl))
theorem dk_190 {code : ByteArray} {pc : Nat} (h : DkAt code pc [190]) : decode code pc = .ok (.arraylength, 1) := dk_of ((dk_bind (dk_u1 (h 0 _ rfl))).trans rfl)
theorem dk_191 {code : ByteArray} {pc : Nat} (h : DkAt code pc [191]) : decode code pc = .ok (.athrow, 1) := dk_of ((dk_bind (dk_u1 (h 0 _ rfl))).trans rfl)
theorem dk_192 {code : ByteArray} {pc : Nat} (a b : UInt8) (h : DkAt code pc [192, a, b]) : decode code pc = .ok (.checkcast (a.toNat * 256 + b.toNat), 3) := dk_of ((dk_bind (dk_u1 (h 0 _ rfl))).trans ((dk_bind (dk_u2 (h 1 _ rfl) (h 2 _ rfl))).trans rfl))
theorem dk_193 {code : ByteArray} {pc : Nat} (a b : UInt8) (h : DkAt code pc [193, a, b]) : decode code pc = .ok (.instanceof (a.toNat * 256 + b.toNat), 3) := dk_of ((dk_bind (dk_u1 (h 0 _ rfl))).trans ((dk_bind (dk_u2 (h 1 _ rfl) (h 2 _ rfl))).trans rfl))
theorem dk_198 {code : ByteArray} {pc : Nat} (a b : UInt8) (h : DkAt code pc [198, a, b]) : decode code pc = .ok (.ifnull (Reader.signed 16 (a.toNat * 256 + b.toNat)), 3) := dk_of ((dk_bind (dk_u1 (h 0 _ rfl))).trans ((dk_bind (dk_map (dk_u2 (h 1 _ rfl) (h 2 _ rfl)))).trans rfl))
theorem dk_199 {code : ByteArray} {pc : Nat} (a b : UInt8) (h : DkAt code pc [199, a, b]) : decode code pc = .ok (.ifnonnull (Reader.signed 16 (a.toNat * 256 + b.toNat)), 3) := dk_of ((dk_bind (dk_u1 (h 0 _ rfl))).trans ((dk_bind (dk_map (dk_u2 (h 1 _ rfl) (h 2 _ rfl)))).trans rfl))

/-! java/util/AbstractCollection -/
set_option maxRecDepth 100000
def RJ0 : String := "java/util/AbstractCollection"
abbrev cJ0_init : ByteArray := prog_35_method_1_code
def yJ0_init : MethodName := ⟨RJ0, "<init>", "()V"⟩
theorem dJ0_init_0 : decode cJ0_init 0 = .ok (.aload_n 0, 1) := by decide +kernel
theorem dJ0_init_1 : decode cJ0_init 1 = .ok (.invokespecial 1, 3) := by decide +kernel
theorem dJ0_init_4 : decode cJ0_init 4 = .ok (.return_, 1) := by decide +kernel
theorem q66 : (Jvm.Cond.initialized "java/util/AbstractCollection") ∈ lw_all := lw_g (lw_at lw_m1 3 rfl) rfl
theorem q129 : (Jvm.Cond.instanceMethod ({ cls := "java/util/AbstractCollection", name := "<init>", desc := "()V" } : Jvm.MethodName)) ∈ lw_all := lw_g (lw_at lw_m1 66 rfl) rfl
theorem q130 : (Jvm.Cond.code ({ cls := "java/util/AbstractCollection", name := "<init>", desc := "()V" } : Jvm.MethodName) prog_35_method_1_code (1 : Nat) (Option.none : Option Jvm.ClassFile.FieldType)) ∈ lw_all := lw_g (lw_at lw_m1 67 rfl) rfl
theorem q131 : (Jvm.Cond.methodLink "java/util/AbstractCollection" (1 : Nat) ({ cls := "java/lang/Object", name := "<init>", desc := "()V" } : Jvm.MethodName)) ∈ lw_all := lw_g (lw_at lw_m1 68 rfl) rfl
theorem q528 : (Jvm.Cond.declares ({ cls := "java/util/AbstractCollection", name := "size", desc := "()I" } : Jvm.MethodName)) ∈ lw_tbl := lw_at lw_m2 225 rfl

/-! java/util/AbstractList -/
set_option maxRecDepth 100000
def RJ1 : String := "java/util/AbstractList"
abbrev cJ1_init : ByteArray := prog_36_method_1_code
def yJ1_init : MethodName := ⟨RJ1, "<init>", "()V"⟩
def dkwJ1_init_0 : List UInt8 := [42, 183, 0, 1, 42, 3, 181, 0, 7, 177]
abbrev dktJ1_init_0 : List UInt8 := dkwJ1_init_0 ++ []
theorem dksJ1_init_0 : cJ1_init.data.toList.drop 0 = dktJ1_init_0 := by decide +kernel
theorem dJ1_init_0 : decode cJ1_init 0 = .ok (.aload_n 0, 1) := dk_42 (dk_at dksJ1_init_0 0 rfl rfl)
theorem dJ1_init_1 : decode cJ1_init 1 = .ok (.invokespecial 1, 3) := dk_183 0 1 (dk_at dksJ1_init_0 1 rfl rfl)
theorem dJ1_init_4 : decode cJ1_init 4 = .ok (.aload_n 0, 1) := dk_42 (dk_at dksJ1_init_0 4 rfl rfl)
theorem dJ1_init_5 : decode cJ1_init 5 = .ok (.iconst 0, 1) := dk_3 (dk_at dksJ1_init_0 5 rfl rfl)
theorem dJ1_init_6 : decode cJ1_init 6 = .ok (.putfield 7, 3) := dk_181 0 7 (dk_at dksJ1_init_0 6 rfl rfl)
theorem dJ1_init_9 : decode cJ1_init 9 = .ok (.return_, 1) := dk_177 (dk_at dksJ1_init_0 9 rfl rfl)
abbrev cJ1_listIterator : ByteArray := prog_36_method_12_code
def yJ1_listIterator : MethodName := ⟨RJ1, "listIterator", "()Ljava/util/ListIterator;"⟩
def dkwJ1_listIterator_0 : List UInt8 := [42, 3, 182, 0, 47, 176]
abbrev dktJ1_listIterator_0 : List UInt8 := dkwJ1_listIterator_0 ++ []
theorem dksJ1_listIterator_0 : cJ1_listIterator.data.toList.drop 0 = dktJ1_listIterator_0 := by decide +kernel
theorem dJ1_listIterator_0 : decode cJ1_listIterator 0 = .ok (.aload_n 0, 1) := dk_42 (dk_at dksJ1_listIterator_0 0 rfl rfl)
theorem dJ1_listIterator_1 : decode cJ1_listIterator 1 = .ok (.iconst 0, 1) := dk_3 (dk_at dksJ1_listIterator_0 1 rfl rfl)
theorem dJ1_listIterator_2 : decode cJ1_listIterator 2 = .ok (.invokevirtual 47, 3) := dk_182 0 47 (dk_at dksJ1_listIterator_0 2 rfl rfl)
theorem dJ1_listIterator_5 : decode cJ1_listIterator 5 = .ok (.areturn, 1) := dk_176 (dk_at dksJ1_listIterator_0 5 rfl rfl)
theorem q67 : (Jvm.Cond.initialized "java/util/AbstractList") ∈ lw_all := lw_g (lw_at lw_m1 4 rfl) rfl
theorem q126 : (Jvm.Cond.instanceMethod ({ cls := "java/util/AbstractList", name := "<init>", desc := "()V" } : Jvm.MethodName)) ∈ lw_all := lw_g (lw_at lw_m1 63 rfl) rfl
theorem q127 : (Jvm.Cond.code ({ cls := "java/util/AbstractList", name := "<init>", desc := "()V" } : Jvm.MethodName) prog_36_method_1_code (1 : Nat) (Option.none : Option Jvm.ClassFile.FieldType)) ∈ lw_all := lw_g (lw_at lw_m1 64 rfl) rfl
theorem q128 : (Jvm.Cond.methodLink "java/util/AbstractList" (1 : Nat) ({ cls := "java/util/AbstractCollection", name := "<init>", desc := "()V" } : Jvm.MethodName)) ∈ lw_all := lw_g (lw_at lw_m1 65 rfl) rfl
theorem q140 : (Jvm.Cond.fieldLink "java/util/AbstractList" (7 : Nat) "java/util/AbstractList" "modCount" "I") ∈ lw_all := lw_g (lw_at lw_m1 77 rfl) rfl
theorem q153 : (Jvm.Cond.soleField "java/util/AbstractList" "modCount") ∈ lw_all := lw_g (lw_at lw_m1 90 rfl) rfl
theorem q527 : (Jvm.Cond.sameMethod "java/util/AbstractList" "java/util/AbstractCollection" "size" "()I") ∈ lw_all := lw_g (lw_at lw_m2 224 rfl) rfl
theorem q565 : (Jvm.Cond.declares ({ cls := "java/util/AbstractList", name := "get", desc := "(I)Ljava/lang/Object;" } : Jvm.MethodName)) ∈ lw_tbl := lw_at lw_m3 22 rfl
theorem q566 : (Jvm.Cond.sameMethod "java/util/AbstractList" "java/util/AbstractList" "get" "(I)Ljava/lang/Object;") ∈ lw_all := lw_g (lw_at lw_m3 23 rfl) rfl
theorem q910 : (Jvm.Cond.declares ({ cls := "java/util/AbstractList", name := "listIterator", desc := "()Ljava/util/ListIterator;" } : Jvm.MethodName)) ∈ lw_tbl := lw_at lw_m4 127 rfl
theorem q912 : (Jvm.Cond.instanceMethod ({ cls := "java/util/AbstractList", name := "listIterator", desc := "()Ljava/util/ListIterator;" } : Jvm.MethodName)) ∈ lw_all := lw_g (lw_at lw_m4 129 rfl) rfl
theorem q913 : (Jvm.Cond.code ({ cls := "java/util/AbstractList", name := "listIterator", desc := "()Ljava/util/ListIterator;" } : Jvm.MethodName) prog_36_method_12_code (1 : Nat) (Option.some (Jvm.ClassFile.FieldType.object "java/util/ListIterator"))) ∈ lw_all := lw_g (lw_at lw_m4 130 rfl) rfl
theorem q914 : (Jvm.Cond.methodLink "java/util/AbstractList" (47 : Nat) ({ cls := "java/util/AbstractList", name := "listIterator", desc := "(I)Ljava/util/ListIterator;" } : Jvm.MethodName)) ∈ lw_all := lw_g (lw_at lw_m4 131 rfl) rfl
theorem q915 : (Jvm.Cond.instanceMethod ({ cls := "java/util/AbstractList", name := "listIterator", desc := "(I)Ljava/util/ListIterator;" } : Jvm.MethodName)) ∈ lw_all := lw_g (lw_at lw_m4 132 rfl) rfl
theorem q916 : (Jvm.Cond.sameMethod "java/util/AbstractList" "java/util/AbstractList" "listIterator" "(I)Ljava/util/ListIterator;") ∈ lw_all := lw_g (lw_at lw_m4 133 rfl) rfl
theorem q972 : (Jvm.Cond.declares ({ cls := "java/util/AbstractList", name := "listIterator", desc := "(I)Ljava/util/ListIterator;" } : Jvm.MethodName)) ∈ lw_tbl := lw_at lw_m4 189 rfl

/-! java/lang/AbstractStringBuilder -/
set_option maxRecDepth 100000
def RJ10 : String := "java/lang/AbstractStringBuilder"
abbrev cJ10_init : ByteArray := prog_14_method_2_code
def yJ10_init : MethodName := ⟨RJ10, "<init>", "(I)V"⟩
def dkwJ10_init_1 : List UInt8 := [167, 0, 16, 42, 27, 184, 0, 26, 181, 0, 15, 42, 4, 181, 0, 22, 177]
abbrev dktJ10_init_1 : List UInt8 := dkwJ10_init_1 ++ []
def dkwJ10_init_0 : List UInt8 := [42, 183, 0, 3, 178, 0, 18, 153, 0, 18, 42, 27, 188, 8, 181, 0, 15, 42, 3, 181, 0, 22]
abbrev dktJ10_init_0 : List UInt8 := dkwJ10_init_0 ++ dktJ10_init_1
theorem dksJ10_init_0 : cJ10_init.data.toList.drop 0 = dktJ10_init_0 := by decide +kernel
theorem dksJ10_init_1 : cJ10_init.data.toList.drop 22 = dktJ10_init_1 := dk_seg dksJ10_init_0 22 rfl rfl
theorem dJ10_init_0 : decode cJ10_init 0 = .ok (.aload_n 0, 1) := dk_42 (dk_at dksJ10_init_0 0 rfl rfl)
theorem dJ10_init_1 : decode cJ10_init 1 = .ok (.invokespecial 3, 3) := dk_183 0 3 (dk_at dksJ10_init_0 1 rfl rfl)
theorem dJ10_init_4 : decode cJ10_init 4 = .ok (.getstatic 18, 3) := dk_178 0 18 (dk_at dksJ10_init_0 4 rfl rfl)
theorem dJ10_init_7 : decode cJ10_init 7 = .ok (.ifCond .eq 18, 3) := dk_153 0 18 (dk_at dksJ10_init_0 7 rfl rfl)
theorem dJ10_init_10 : decode cJ10_init 10 = .ok (.aload_n 0, 1) := dk_42 (dk_at dksJ10_init_0 10 rfl rfl)
theorem dJ10_init_11 : decode cJ10_init 11 = .ok (.iload_n 1, 1) := dk_27 (dk_at dksJ10_init_0 11 rfl rfl)
theorem dJ10_init_12 : decode cJ10_init 12 = .ok (.newarray .byte, 2) := dk_188_8 (dk_at dksJ10_init_0 12 rfl rfl)
theorem dJ10_init_14 : decode cJ10_init 14 = .ok (.putfield 15, 3) := dk_181 0 15 (dk_at dksJ10_init_0 14 rfl rfl)
theorem dJ10_init_17 : decode cJ10_init 17 = .ok (.aload_n 0, 1) := dk_42 (dk_at dksJ10_init_0 17 rfl rfl)
theorem dJ10_init_18 : decode cJ10_init 18 = .ok (.iconst 0, 1) := dk_3 (dk_at dksJ10_init_0 18 rfl rfl)
theorem dJ10_init_19 : decode cJ10_init 19 = .ok (.putfield 22, 3) := dk_181 0 22 (dk_at dksJ10_init_0 19 rfl rfl)
theorem dJ10_init_22 : decode cJ10_init 22 = .ok (.goto 16, 3) := dk_167 0 16 (dk_at dksJ10_init_1 0 rfl rfl)
theorem dJ10_init_25 : decode cJ10_init 25 = .ok (.aload_n 0, 1) := dk_42 (dk_at dksJ10_init_1 3 rfl rfl)
theorem dJ10_init_26 : decode cJ10_init 26 = .ok (.iload_n 1, 1) := dk_27 (dk_at dksJ10_init_1 4 rfl rfl)
theorem dJ10_init_27 : decode cJ10_init 27 = .ok (.invokestatic 26, 3) := dk_184 0 26 (dk_at dksJ10_init_1 5 rfl rfl)
theorem dJ10_init_30 : decode cJ10_init 30 = .ok (.putfield 15, 3) := dk_181 0 15 (dk_at dksJ10_init_1 8 rfl rfl)
theorem dJ10_init_33 : decode cJ10_init 33 = .ok (.aload_n 0, 1) := dk_42 (dk_at dksJ10_init_1 11 rfl rfl)
theorem dJ10_init_34 : decode cJ10_init 34 = .ok (.iconst 1, 1) := dk_4 (dk_at dksJ10_init_1 12 rfl rfl)
theorem dJ10_init_35 : decode cJ10_init 35 = .ok (.putfield 22, 3) := dk_181 0 22 (dk_at dksJ10_init_1 13 rfl rfl)
theorem dJ10_init_38 : decode cJ10_init 38 = .ok (.return_, 1) := dk_177 (dk_at dksJ10_init_1 16 rfl rfl)
abbrev cJ10_append : ByteArray := prog_14_method_22_code
def yJ10_append : MethodName := ⟨RJ10, "append", "(Ljava/lang/String;)Ljava/lang/AbstractStringBuilder;"⟩
def dkwJ10_append_1 : List UInt8 := [42, 42, 180, 0, 79, 43, 182, 0, 208, 42, 89, 180, 0, 79, 28, 96, 181, 0, 79, 42, 176]
abbrev dktJ10_append_1 : List UInt8 := dkwJ10_append_1 ++ []
def dkwJ10_append_0 : List UInt8 := [43, 199, 0, 8, 42, 182, 0, 204, 176, 43, 182, 0, 32, 61, 42, 42, 180, 0, 79, 28, 96, 182, 0, 100]
abbrev dktJ10_append_0 : List UInt8 := dkwJ10_append_0 ++ dktJ10_append_1
theorem dksJ10_append_0 : cJ10_append.data.toList.drop 0 = dktJ10_append_0 := by decide +kernel
theorem dksJ10_append_1 : cJ10_append.data.toList.drop 24 = dktJ10_append_1 := dk_seg dksJ10_append_0 24 rfl rfl
theorem dJ10_append_0 : decode cJ10_append 0 = .ok (.aload_n 1, 1) := dk_43 (dk_at dksJ10_append_0 0 rfl rfl)
theorem dJ10_append_1 : decode cJ10_append 1 = .ok (.ifnonnull 8, 3) := dk_199 0 8 (dk_at dksJ10_append_0 1 rfl rfl)
theorem dJ10_append_4 : decode cJ10_append 4 = .ok (.aload_n 0, 1) := dk_42 (dk_at dksJ10_append_0 4 rfl rfl)
theorem dJ10_append_5 : decode cJ10_append 5 = .ok (.invokevirtual 204, 3) := dk_182 0 204 (dk_at dksJ10_append_0 5 rfl rfl)
theorem dJ10_append_8 : decode cJ10_append 8 = .ok (.areturn, 1) := dk_176 (dk_at dksJ10_append_0 8 rfl rfl)
theorem dJ10_append_9 : decode cJ10_append 9 = .ok (.aload_n 1, 1) := dk_43 (dk_at dksJ10_append_0 9 rfl rfl)
theorem dJ10_append_10 : decode cJ10_append 10 = .ok (.invokevirtual 32, 3) := dk_182 0 32 (dk_at dksJ10_append_0 10 rfl rfl)
theorem dJ10_append_13 : decode cJ10_append 13 = .ok (.istore_n 2, 1) := dk_61 (dk_at dksJ10_append_0 13 rfl rfl)
theorem dJ10_append_14 : decode cJ10_append 14 = .ok (.aload_n 0, 1) := dk_42 (dk_at dksJ10_append_0 14 rfl rfl)
theorem dJ10_append_15 : decode cJ10_append 15 = .ok (.aload_n 0, 1) := dk_42 (dk_at dksJ10_append_0 15 rfl rfl)
theorem dJ10_append_16 : decode cJ10_append 16 = .ok (.getfield 79, 3) := dk_180 0 79 (dk_at dksJ10_append_0 16 rfl rfl)
theorem dJ10_append_19 : decode cJ10_append 19 = .ok (.iload_n 2, 1) := dk_28 (dk_at dksJ10_append_0 19 rfl rfl)
theorem dJ10_append_20 : decode cJ10_append 20 = .ok (.iadd, 1) := dk_96 (dk_at dksJ10_append_0 20 rfl rfl)
theorem dJ10_append_21 : decode cJ10_append 21 = .ok (.invokevirtual 100, 3) := dk_182 0 100 (dk_at dksJ10_append_0 21 rfl rfl)
theorem dJ10_append_24 : decode cJ10_append 24 = .ok (.aload_n 0, 1) := dk_42 (dk_at dksJ10_append_1 0 rfl rfl)
theorem dJ10_append_25 : decode cJ10_append 25 = .ok (.aload_n 0, 1) := dk_42 (dk_at dksJ10_append_1 1 rfl rfl)
theorem dJ10_append_26 : decode cJ10_append 26 = .ok (.getfield 79, 3) := dk_180 0 79 (dk_at dksJ10_append_1 2 rfl rfl)
theorem dJ10_append_29 : decode cJ10_append 29 = .ok (.aload_n 1, 1) := dk_43 (dk_at dksJ10_append_1 5 rfl rfl)
theorem dJ10_append_30 : decode cJ10_append 30 = .ok (.invokevirtual 208, 3) := dk_182 0 208 (dk_at dksJ10_append_1 6 rfl rfl)
theorem dJ10_append_33 : decode cJ10_append 33 = .ok (.aload_n 0, 1) := dk_42 (dk_at dksJ10_append_1 9 rfl rfl)
theorem dJ10_append_34 : decode cJ10_append 34 = .ok (.dup, 1) := dk_89 (dk_at dksJ10_append_1 10 rfl rfl)
theorem dJ10_append_35 : decode cJ10_append 35 = .ok (.getfield 79, 3) := dk_180 0 79 (dk_at dksJ10_append_1 11 rfl rfl)
theorem dJ10_append_38 : decode cJ10_append 38 = .ok (.iload_n 2, 1) := dk_28 (dk_at dksJ10_append_1 14 rfl rfl)
theorem dJ10_append_39 : decode cJ10_append 39 = .ok (.iadd, 1) := dk_96 (dk_at dksJ10_append_1 15 rfl rfl)
theorem dJ10_append_40 : decode cJ10_append 40 = .ok (.putfield 79, 3) := dk_181 0 79 (dk_at dksJ10_append_1 16 rfl rfl)
theorem dJ10_append_43 : decode cJ10_append 43 = .ok (.aload_n 0, 1) := dk_42 (dk_at dksJ10_append_1 19 rfl rfl)
theorem dJ10_append_44 : decode cJ10_append 44 = .ok (.areturn, 1) := dk_176 (dk_at dksJ10_append_1 20 rfl rfl)
abbrev cJ10_appendNull : ByteArray := prog_14_method_26_code
def yJ10_appendNull : MethodName := ⟨RJ10, "appendNull", "()Ljava/lang/AbstractStringBuilder;"⟩
def dkwJ10_appendNull_3 : List UInt8 := [184, 0, 226, 60, 42, 27, 181, 0, 79, 42, 176]
abbrev dktJ10_appendNull_3 : List UInt8 := dkwJ10_appendNull_3 ++ []
def dkwJ10_appendNull_2 : List UInt8 := [16, 108, 84, 44, 27, 132, 1, 1, 16, 108, 84, 167, 0, 17, 44, 27, 16, 110, 16, 117, 16, 108, 16, 108]
abbrev dktJ10_appendNull_2 : List UInt8 := dkwJ10_appendNull_2 ++ dktJ10_appendNull_3
def dkwJ10_appendNull_1 : List UInt8 := [153, 0, 38, 44, 27, 132, 1, 1, 16, 110, 84, 44, 27, 132, 1, 1, 16, 117, 84, 44, 27, 132, 1, 1]
abbrev dktJ10_appendNull_1 : List UInt8 := dkwJ10_appendNull_1 ++ dktJ10_appendNull_2
def dkwJ10_appendNull_0 : List UInt8 := [42, 42, 180, 0, 79, 7, 96, 182, 0, 100, 42, 180, 0, 79, 60, 42, 180, 0, 15, 77, 42, 182, 0, 83]
abbrev dktJ10_appendNull_0 : List UInt8 := dkwJ10_appendNull_0 ++ dktJ10_appendNull_1
theorem dksJ10_appendNull_0 : cJ10_appendNull.data.toList.drop 0 = dktJ10_appendNull_0 := by decide +kernel
theorem dksJ10_appendNull_1 : cJ10_appendNull.data.toList.drop 24 = dktJ10_appendNull_1 := dk_seg dksJ10_appendNull_0 24 rfl rfl
theorem dksJ10_appendNull_2 : cJ10_appendNull.data.toList.drop 48 = dktJ10_appendNull_2 := dk_seg dksJ10_appendNull_1 24 rfl rfl
theorem dksJ10_appendNull_3 : cJ10_appendNull.data.toList.drop 72 = dktJ10_appendNull_3 := dk_seg dksJ10_appendNull_2 24 rfl rfl
theorem dJ10_appendNull_0 : decode cJ10_appendNull 0 = .ok (.aload_n 0, 1) := dk_42 (dk_at dksJ10_appendNull_0 0 rfl rfl)
theorem dJ10_appendNull_1 : decode cJ10_appendNull 1 = .ok (.aload_n 0, 1) := dk_42 (dk_at dksJ10_appendNull_0 1 rfl rfl)
theorem dJ10_appendNull_2 : decode cJ10_appendNull 2 = .ok (.getfield 79, 3) := dk_180 0 79 (dk_at dksJ10_appendNull_0 2 rfl rfl)
theorem dJ10_appendNull_5 : decode cJ10_appendNull 5 = .ok (.iconst 4, 1) := dk_7 (dk_at dksJ10_appendNull_0 5 rfl rfl)
theorem dJ10_appendNull_6 : decode cJ10_appendNull 6 = .ok (.iadd, 1) := dk_96 (dk_at dksJ10_appendNull_0 6 rfl rfl)
theorem dJ10_appendNull_7 : decode cJ10_appendNull 7 = .ok (.invokevirtual 100, 3) := dk_182 0 100 (dk_at dksJ10_appendNull_0 7 rfl rfl)
theorem dJ10_appendNull_10 : decode cJ10_appendNull 10 = .ok (.aload_n 0, 1) := dk_42 (dk_at dksJ10_appendNull_0 10 rfl rfl)
theorem dJ10_appendNull_11 : decode cJ10_appendNull 11 = .ok (.getfield 79, 3) := dk_180 0 79 (dk_at dksJ10_appendNull_0 11 rfl rfl)
theorem dJ10_appendNull_14 : decode cJ10_appendNull 14 = .ok (.istore_n 1, 1) := dk_60 (dk_at dksJ10_appendNull_0 14 rfl rfl)
theorem dJ10_appendNull_15 : decode cJ10_appendNull 15 = .ok (.aload_n 0, 1) := dk_42 (dk_at dksJ10_appendNull_0 15 rfl rfl)
theorem dJ10_appendNull_16 : decode cJ10_appendNull 16 = .ok (.getfield 15, 3) := dk_180 0 15 (dk_at dksJ10_appendNull_0 16 rfl rfl)
theorem dJ10_appendNull_19 : decode cJ10_appendNull 19 = .ok (.astore_n 2, 1) := dk_77 (dk_at dksJ10_appendNull_0 19 rfl rfl)
theorem dJ10_appendNull_20 : decode cJ10_appendNull 20 = .ok (.aload_n 0, 1) := dk_42 (dk_at dksJ10_appendNull_0 20 rfl rfl)
theorem dJ10_appendNull_21 : decode cJ10_appendNull 21 = .ok (.invokevirtual 83, 3) := dk_182 0 83 (dk_at dksJ10_appendNull_0 21 rfl rfl)
theorem dJ10_appendNull_24 : decode cJ10_appendNull 24 = .ok (.ifCond .eq 38, 3) := dk_153 0 38 (dk_at dksJ10_appendNull_1 0 rfl rfl)
theorem dJ10_appendNull_27 : decode cJ10_appendNull 27 = .ok (.aload_n 2, 1) := dk_44 (dk_at dksJ10_appendNull_1 3 rfl rfl)
theorem dJ10_appendNull_28 : decode cJ10_appendNull 28 = .ok (.iload_n 1, 1) := dk_27 (dk_at dksJ10_appendNull_1 4 rfl rfl)
theorem dJ10_appendNull_29 : decode cJ10_appendNull 29 = .ok (.iinc 1 1, 3) := dk_132 1 1 (dk_at dksJ10_appendNull_1 5 rfl rfl)
theorem dJ10_appendNull_32 : decode cJ10_appendNull 32 = .ok (.bipush 110, 2) := dk_16 110 (dk_at dksJ10_appendNull_1 8 rfl rfl)
theorem dJ10_appendNull_34 : decode cJ10_appendNull 34 = .ok (.bastore, 1) := dk_84 (dk_at dksJ10_appendNull_1 10 rfl rfl)
theorem dJ10_appendNull_35 : decode cJ10_appendNull 35 = .ok (.aload_n 2, 1) := dk_44 (dk_at dksJ10_appendNull_1 11 rfl rfl)
theorem dJ10_appendNull_36 : decode cJ10_appendNull 36 = .ok (.iload_n 1, 1) := dk_27 (dk_at dksJ10_appendNull_1 12 rfl rfl)
theorem dJ10_appendNull_37 : decode cJ10_appendNull 37 = .ok (.iinc 1 1, 3) := dk_132 1 1 (dk_at dksJ10_appendNull_1 13 rfl rfl)
theorem dJ10_appendNull_40 : decode cJ10_appendNull 40 = .ok (.bipush 117, 2) := dk_16 117 (dk_at dksJ10_appendNull_1 16 rfl rfl)
theorem dJ10_appendNull_42 : decode cJ10_appendNull 42 = .ok (.bastore, 1) := dk_84 (dk_at dksJ10_appendNull_1 18 rfl rfl)
theorem dJ10_appendNull_43 : decode cJ10_appendNull 43 = .ok (.aload_n 2, 1) := dk_44 (dk_at dksJ10_appendNull_1 19 rfl rfl)
theorem dJ10_appendNull_44 : decode cJ10_appendNull 44 = .ok (.iload_n 1, 1) := dk_27 (dk_at dksJ10_appendNull_1 20 rfl rfl)
theorem dJ10_appendNull_45 : decode cJ10_appendNull 45 = .ok (.iinc 1 1, 3) := dk_132 1 1 (dk_at dksJ10_appendNull_1 21 rfl rfl)
theorem dJ10_appendNull_48 : decode cJ10_appendNull 48 = .ok (.bipush 108, 2) := dk_16 108 (dk_at dksJ10_appendNull_2 0 rfl rfl)
theorem dJ10_appendNull_50 : decode cJ10_appendNull 50 = .ok (.bastore, 1) := dk_84 (dk_at dksJ10_appendNull_2 2 rfl rfl)
theorem dJ10_appendNull_51 : decode cJ10_appendNull 51 = .ok (.aload_n 2, 1) := dk_44 (dk_at dksJ10_appendNull_2 3 rfl rfl)
theorem dJ10_appendNull_52 : decode cJ10_appendNull 52 = .ok (.iload_n 1, 1) := dk_27 (dk_at dksJ10_appendNull_2 4 rfl rfl)
theorem dJ10_appendNull_53 : decode cJ10_appendNull 53 = .ok (.iinc 1 1, 3) := dk_132 1 1 (dk_at dksJ10_appendNull_2 5 rfl rfl)
theorem dJ10_appendNull_56 : decode cJ10_appendNull 56 = .ok (.bipush 108, 2) := dk_16 108 (dk_at dksJ10_appendNull_2 8 rfl rfl)
theorem dJ10_appendNull_58 : decode cJ10_appendNull 58 = .ok (.bastore, 1) := dk_84 (dk_at dksJ10_appendNull_2 10 rfl rfl)
theorem dJ10_appendNull_59 : decode cJ10_appendNull 59 = .ok (.goto 17, 3) := dk_167 0 17 (dk_at dksJ10_appendNull_2 11 rfl rfl)
theorem dJ10_appendNull_62 : decode cJ10_appendNull 62 = .ok (.aload_n 2, 1) := dk_44 (dk_at dksJ10_appendNull_2 14 rfl rfl)
theorem dJ10_appendNull_63 : decode cJ10_appendNull 63 = .ok (.iload_n 1, 1) := dk_27 (dk_at dksJ10_appendNull_2 15 rfl rfl)
theorem dJ10_appendNull_64 : decode cJ10_appendNull 64 = .ok (.bipush 110, 2) := dk_16 110 (dk_at dksJ10_appendNull_2 16 rfl rfl)
theorem dJ10_appendNull_66 : decode cJ10_appendNull 66 = .ok (.bipush 117, 2) := dk_16 117 (dk_at dksJ10_appendNull_2 18 rfl rfl)
theorem dJ10_appendNull_68 : decode cJ10_appendNull 68 = .ok (.bipush 108, 2) := dk_16 108 (dk_at dksJ10_appendNull_2 20 rfl rfl)
theorem dJ10_appendNull_70 : decode cJ10_appendNull 70 = .ok (.bipush 108, 2) := dk_16 108 (dk_at dksJ10_appendNull_2 22 rfl rfl)
theorem dJ10_appendNull_72 : decode cJ10_appendNull 72 = .ok (.invokestatic 226, 3) := dk_184 0 226 (dk_at dksJ10_appendNull_3 0 rfl rfl)
theorem dJ10_appendNull_75 : decode cJ10_appendNull 75 = .ok (.istore_n 1, 1) := dk_60 (dk_at dksJ10_appendNull_3 3 rfl rfl)
theorem dJ10_appendNull_76 : decode cJ10_appendNull 76 = .ok (.aload_n 0, 1) := dk_42 (dk_at dksJ10_appendNull_3 4 rfl rfl)
theorem dJ10_appendNull_77 : decode cJ10_appendNull 77 = .ok (.iload_n 1, 1) := dk_27 (dk_at dksJ10_appendNull_3 5 rfl rfl)
theorem dJ10_appendNull_78 : decode cJ10_appendNull 78 = .ok (.putfield 79, 3) := dk_181 0 79 (dk_at dksJ10_appendNull_3 6 rfl rfl)
theorem dJ10_appendNull_81 : decode cJ10_appendNull 81 = .ok (.aload_n 0, 1) := dk_42 (dk_at dksJ10_appendNull_3 9 rfl rfl)
theorem dJ10_appendNull_82 : decode cJ10_appendNull 82 = .ok (.areturn, 1) := dk_176 (dk_at dksJ10_appendNull_3 10 rfl rfl)
abbrev cJ10_ensureCapacityInternal : ByteArray := prog_14_method_9_code
def yJ10_ensureCapacityInternal : MethodName := ⟨RJ10, "ensureCapacityInternal", "(I)V"⟩
def dkwJ10_ensureCapacityInternal_1 : List UInt8 := [182, 0, 104, 42, 180, 0, 22, 120, 184, 0, 108, 181, 0, 15, 177]
abbrev dktJ10_ensureCapacityInternal_1 : List UInt8 := dkwJ10_ensureCapacityInternal_1 ++ []
def dkwJ10_ensureCapacityInternal_0 : List UInt8 := [42, 180, 0, 15, 190, 42, 180, 0, 22, 122, 61, 27, 28, 100, 158, 0, 24, 42, 42, 180, 0, 15, 42, 27]
abbrev dktJ10_ensureCapacityInternal_0 : List UInt8 := dkwJ10_ensureCapacityInternal_0 ++ dktJ10_ensureCapacityInternal_1
theorem dksJ10_ensureCapacityInternal_0 : cJ10_ensureCapacityInternal.data.toList.drop 0 = dktJ10_ensureCapacityInternal_0 := by decide +kernel
theorem dksJ10_ensureCapacityInternal_1 : cJ10_ensureCapacityInternal.data.toList.drop 24 = dktJ10_ensureCapacityInternal_1 := dk_seg dksJ10_ensureCapacityInternal_0 24 rfl rfl
theorem dJ10_ensureCapacityInternal_0 : decode cJ10_ensureCapacityInternal 0 = .ok (.aload_n 0, 1) := dk_42 (dk_at dksJ10_ensureCapacityInternal_0 0 rfl rfl)
theorem dJ10_ensureCapacityInternal_1 : decode cJ10_ensureCapacityInternal 1 = .ok (.getfield 15, 3) := dk_180 0 15 (dk_at dksJ10_ensureCapacityInternal_0 1 rfl rfl)
theorem dJ10_ensureCapacityInternal_4 : decode cJ10_ensureCapacityInternal 4 = .ok (.arraylength, 1) := dk_190 (dk_at dksJ10_ensureCapacityInternal_0 4 rfl rfl)
theorem dJ10_ensureCapacityInternal_5 : decode cJ10_ensureCapacityInternal 5 = .ok (.aload_n 0, 1) := dk_42 (dk_at dksJ10_ensureCapacityInternal_0 5 rfl rfl)
theorem dJ10_ensureCapacityInternal_6 : decode cJ10_ensureCapacityInternal 6 = .ok (.getfield 22, 3) := dk_180 0 22 (dk_at dksJ10_ensureCapacityInternal_0 6 rfl rfl)
theorem dJ10_ensureCapacityInternal_9 : decode cJ10_ensureCapacityInternal 9 = .ok (.ishr, 1) := dk_122 (dk_at dksJ10_ensureCapacityInternal_0 9 rfl rfl)
theorem dJ10_ensureCapacityInternal_10 : decode cJ10_ensureCapacityInternal 10 = .ok (.istore_n 2, 1) := dk_61 (dk_at dksJ10_ensureCapacityInternal_0 10 rfl rfl)
theorem dJ10_ensureCapacityInternal_11 : decode cJ10_ensureCapacityInternal 11 = .ok (.iload_n 1, 1) := dk_27 (dk_at dksJ10_ensureCapacityInternal_0 11 rfl rfl)
theorem dJ10_ensureCapacityInternal_12 : decode cJ10_ensureCapacityInternal 12 = .ok (.iload_n 2, 1) := dk_28 (dk_at dksJ10_ensureCapacityInternal_0 12 rfl rfl)
theorem dJ10_ensureCapacityInternal_13 : decode cJ10_ensureCapacityInternal 13 = .ok (.isub, 1) := dk_100 (dk_at dksJ10_ensureCapacityInternal_0 13 rfl rfl)
theorem dJ10_ensureCapacityInternal_14 : decode cJ10_ensureCapacityInternal 14 = .ok (.ifCond .le 24, 3) := dk_158 0 24 (dk_at dksJ10_ensureCapacityInternal_0 14 rfl rfl)
theorem dJ10_ensureCapacityInternal_17 : decode cJ10_ensureCapacityInternal 17 = .ok (.aload_n 0, 1) := dk_42 (dk_at dksJ10_ensureCapacityInternal_0 17 rfl rfl)
theorem dJ10_ensureCapacityInternal_18 : decode cJ10_ensureCapacityInternal 18 = .ok (.aload_n 0, 1) := dk_42 (dk_at dksJ10_ensureCapacityInternal_0 18 rfl rfl)
theorem dJ10_ensureCapacityInternal_19 : decode cJ10_ensureCapacityInternal 19 = .ok (.getfield 15, 3) := dk_180 0 15 (dk_at dksJ10_ensureCapacityInternal_0 19 rfl rfl)
theorem dJ10_ensureCapacityInternal_22 : decode cJ10_ensureCapacityInternal 22 = .ok (.aload_n 0, 1) := dk_42 (dk_at dksJ10_ensureCapacityInternal_0 22 rfl rfl)
theorem dJ10_ensureCapacityInternal_23 : decode cJ10_ensureCapacityInternal 23 = .ok (.iload_n 1, 1) := dk_27 (dk_at dksJ10_ensureCapacityInternal_0 23 rfl rfl)
theorem dJ10_ensureCapacityInternal_24 : decode cJ10_ensureCapacityInternal 24 = .ok (.invokevirtual 104, 3) := dk_182 0 104 (dk_at dksJ10_ensureCapacityInternal_1 0 rfl rfl)
theorem dJ10_ensureCapacityInternal_27 : decode cJ10_ensureCapacityInternal 27 = .ok (.aload_n 0, 1) := dk_42 (dk_at dksJ10_ensureCapacityInternal_1 3 rfl rfl)
theorem dJ10_ensureCapacityInternal_28 : decode cJ10_ensureCapacityInternal 28 = .ok (.getfield 22, 3) := dk_180 0 22 (dk_at dksJ10_ensureCapacityInternal_1 4 rfl rfl)
theorem dJ10_ensureCapacityInternal_31 : decode cJ10_ensureCapacityInternal 31 = .ok (.ishl, 1) := dk_120 (dk_at dksJ10_ensureCapacityInternal_1 7 rfl rfl)
theorem dJ10_ensureCapacityInternal_32 : decode cJ10_ensureCapacityInternal 32 = .ok (.invokestatic 108, 3) := dk_184 0 108 (dk_at dksJ10_ensureCapacityInternal_1 8 rfl rfl)
theorem dJ10_ensureCapacityInternal_35 : decode cJ10_ensureCapacityInternal 35 = .ok (.putfield 15, 3) := dk_181 0 15 (dk_at dksJ10_ensureCapacityInternal_1 11 rfl rfl)
theorem dJ10_ensureCapacityInternal_38 : decode cJ10_ensureCapacityInternal 38 = .ok (.return_, 1) := dk_177 (dk_at dksJ10_ensureCapacityInternal_1 14 rfl rfl)
abbrev cJ10_newCapacity : ByteArray := prog_14_method_10_code
def yJ10_newCapacity : MethodName := ⟨RJ10, "newCapacity", "(I)I"⟩
def dkwJ10_newCapacity_2 : List UInt8 := [183, 0, 124, 191, 21, 5, 42, 180, 0, 22, 122, 172]
abbrev dktJ10_newCapacity_2 : List UInt8 := dkwJ10_newCapacity_2 ++ []
def dkwJ10_newCapacity_1 : List UInt8 := [180, 0, 22, 120, 96, 184, 0, 114, 54, 5, 21, 5, 18, 39, 160, 0, 13, 187, 0, 120, 89, 18, 122]
abbrev dktJ10_newCapacity_1 : List UInt8 := dkwJ10_newCapacity_1 ++ dktJ10_newCapacity_2
def dkwJ10_newCapacity_0 : List UInt8 := [42, 180, 0, 15, 190, 61, 27, 42, 180, 0, 22, 120, 62, 29, 28, 100, 54, 4, 28, 21, 4, 28, 5, 42]
abbrev dktJ10_newCapacity_0 : List UInt8 := dkwJ10_newCapacity_0 ++ dktJ10_newCapacity_1
theorem dksJ10_newCapacity_0 : cJ10_newCapacity.data.toList.drop 0 = dktJ10_newCapacity_0 := by decide +kernel
theorem dksJ10_newCapacity_1 : cJ10_newCapacity.data.toList.drop 24 = dktJ10_newCapacity_1 := dk_seg dksJ10_newCapacity_0 24 rfl rfl
theorem dksJ10_newCapacity_2 : cJ10_newCapacity.data.toList.drop 47 = dktJ10_newCapacity_2 := dk_seg dksJ10_newCapacity_1 23 rfl rfl
theorem dJ10_newCapacity_0 : decode cJ10_newCapacity 0 = .ok (.aload_n 0, 1) := dk_42 (dk_at dksJ10_newCapacity_0 0 rfl rfl)
theorem dJ10_newCapacity_1 : decode cJ10_newCapacity 1 = .ok (.getfield 15, 3) := dk_180 0 15 (dk_at dksJ10_newCapacity_0 1 rfl rfl)
theorem dJ10_newCapacity_4 : decode cJ10_newCapacity 4 = .ok (.arraylength, 1) := dk_190 (dk_at dksJ10_newCapacity_0 4 rfl rfl)
theorem dJ10_newCapacity_5 : decode cJ10_newCapacity 5 = .ok (.istore_n 2, 1) := dk_61 (dk_at dksJ10_newCapacity_0 5 rfl rfl)
theorem dJ10_newCapacity_6 : decode cJ10_newCapacity 6 = .ok (.iload_n 1, 1) := dk_27 (dk_at dksJ10_newCapacity_0 6 rfl rfl)
theorem dJ10_newCapacity_7 : decode cJ10_newCapacity 7 = .ok (.aload_n 0, 1) := dk_42 (dk_at dksJ10_newCapacity_0 7 rfl rfl)
theorem dJ10_newCapacity_8 : decode cJ10_newCapacity 8 = .ok (.getfield 22, 3) := dk_180 0 22 (dk_at dksJ10_newCapacity_0 8 rfl rfl)
theorem dJ10_newCapacity_11 : decode cJ10_newCapacity 11 = .ok (.ishl, 1) := dk_120 (dk_at dksJ10_newCapacity_0 11 rfl rfl)
theorem dJ10_newCapacity_12 : decode cJ10_newCapacity 12 = .ok (.istore_n 3, 1) := dk_62 (dk_at dksJ10_newCapacity_0 12 rfl rfl)
theorem dJ10_newCapacity_13 : decode cJ10_newCapacity 13 = .ok (.iload_n 3, 1) := dk_29 (dk_at dksJ10_newCapacity_0 13 rfl rfl)
theorem dJ10_newCapacity_14 : decode cJ10_newCapacity 14 = .ok (.iload_n 2, 1) := dk_28 (dk_at dksJ10_newCapacity_0 14 rfl rfl)
theorem dJ10_newCapacity_15 : decode cJ10_newCapacity 15 = .ok (.isub, 1) := dk_100 (dk_at dksJ10_newCapacity_0 15 rfl rfl)
theorem dJ10_newCapacity_16 : decode cJ10_newCapacity 16 = .ok (.istore 4, 2) := dk_54 4 (dk_at dksJ10_newCapacity_0 16 rfl rfl)
theorem dJ10_newCapacity_18 : decode cJ10_newCapacity 18 = .ok (.iload_n 2, 1) := dk_28 (dk_at dksJ10_newCapacity_0 18 rfl rfl)
theorem dJ10_newCapacity_19 : decode cJ10_newCapacity 19 = .ok (.iload 4, 2) := dk_21 4 (dk_at dksJ10_newCapacity_0 19 rfl rfl)
theorem dJ10_newCapacity_21 : decode cJ10_newCapacity 21 = .ok (.iload_n 2, 1) := dk_28 (dk_at dksJ10_newCapacity_0 21 rfl rfl)
theorem dJ10_newCapacity_22 : decode cJ10_newCapacity 22 = .ok (.iconst 2, 1) := dk_5 (dk_at dksJ10_newCapacity_0 22 rfl rfl)
theorem dJ10_newCapacity_23 : decode cJ10_newCapacity 23 = .ok (.aload_n 0, 1) := dk_42 (dk_at dksJ10_newCapacity_0 23 rfl rfl)
theorem dJ10_newCapacity_24 : decode cJ10_newCapacity 24 = .ok (.getfield 22, 3) := dk_180 0 22 (dk_at dksJ10_newCapacity_1 0 rfl rfl)
theorem dJ10_newCapacity_27 : decode cJ10_newCapacity 27 = .ok (.ishl, 1) := dk_120 (dk_at dksJ10_newCapacity_1 3 rfl rfl)
theorem dJ10_newCapacity_28 : decode cJ10_newCapacity 28 = .ok (.iadd, 1) := dk_96 (dk_at dksJ10_newCapacity_1 4 rfl rfl)
theorem dJ10_newCapacity_29 : decode cJ10_newCapacity 29 = .ok (.invokestatic 114, 3) := dk_184 0 114 (dk_at dksJ10_newCapacity_1 5 rfl rfl)
theorem dJ10_newCapacity_32 : decode cJ10_newCapacity 32 = .ok (.istore 5, 2) := dk_54 5 (dk_at dksJ10_newCapacity_1 8 rfl rfl)
theorem dJ10_newCapacity_34 : decode cJ10_newCapacity 34 = .ok (.iload 5, 2) := dk_21 5 (dk_at dksJ10_newCapacity_1 10 rfl rfl)
theorem dJ10_newCapacity_36 : decode cJ10_newCapacity 36 = .ok (.ldc 39, 2) := dk_18 39 (dk_at dksJ10_newCapacity_1 12 rfl rfl)
theorem dJ10_newCapacity_38 : decode cJ10_newCapacity 38 = .ok (.if_icmp .ne 13, 3) := dk_160 0 13 (dk_at dksJ10_newCapacity_1 14 rfl rfl)
theorem dJ10_newCapacity_41 : decode cJ10_newCapacity 41 = .ok (.new 120, 3) := dk_187 0 120 (dk_at dksJ10_newCapacity_1 17 rfl rfl)
theorem dJ10_newCapacity_44 : decode cJ10_newCapacity 44 = .ok (.dup, 1) := dk_89 (dk_at dksJ10_newCapacity_1 20 rfl rfl)
theorem dJ10_newCapacity_45 : decode cJ10_newCapacity 45 = .ok (.ldc 122, 2) := dk_18 122 (dk_at dksJ10_newCapacity_1 21 rfl rfl)
theorem dJ10_newCapacity_47 : decode cJ10_newCapacity 47 = .ok (.invokespecial 124, 3) := dk_183 0 124 (dk_at dksJ10_newCapacity_2 0 rfl rfl)
theorem dJ10_newCapacity_50 : decode cJ10_newCapacity 50 = .ok (.athrow, 1) := dk_191 (dk_at dksJ10_newCapacity_2 3 rfl rfl)
theorem dJ10_newCapacity_51 : decode cJ10_newCapacity 51 = .ok (.iload 5, 2) := dk_21 5 (dk_at dksJ10_newCapacity_2 4 rfl rfl)
theorem dJ10_newCapacity_53 : decode cJ10_newCapacity 53 = .ok (.aload_n 0, 1) := dk_42 (dk_at dksJ10_newCapacity_2 6 rfl rfl)
theorem dJ10_newCapacity_54 : decode cJ10_newCapacity 54 = .ok (.getfield 22, 3) := dk_180 0 22 (dk_at dksJ10_newCapacity_2 7 rfl rfl)
theorem dJ10_newCapacity_57 : decode cJ10_newCapacity 57 = .ok (.ishr, 1) := dk_122 (dk_at dksJ10_newCapacity_2 10 rfl rfl)
theorem dJ10_newCapacity_58 : decode cJ10_newCapacity 58 = .ok (.ireturn, 1) := dk_172 (dk_at dksJ10_newCapacity_2 11 rfl rfl)
abbrev cJ10_isLatin1 : ByteArray := prog_14_method_68_code
def yJ10_isLatin1 : MethodName := ⟨RJ10, "isLatin1", "()Z"⟩
def dkwJ10_isLatin1_0 : List UInt8 := [178, 0, 18, 153, 0, 14, 42, 180, 0, 22, 154, 0, 7, 4, 167, 0, 4, 3, 172]
abbrev dktJ10_isLatin1_0 : List UInt8 := dkwJ10_isLatin1_0 ++ []
theorem dksJ10_isLatin1_0 : cJ10_isLatin1.data.toList.drop 0 = dktJ10_isLatin1_0 := by decide +kernel
theorem dJ10_isLatin1_0 : decode cJ10_isLatin1 0 = .ok (.getstatic 18, 3) := dk_178 0 18 (dk_at dksJ10_isLatin1_0 0 rfl rfl)
theorem dJ10_isLatin1_3 : decode cJ10_isLatin1 3 = .ok (.ifCond .eq 14, 3) := dk_153 0 14 (dk_at dksJ10_isLatin1_0 3 rfl rfl)
theorem dJ10_isLatin1_6 : decode cJ10_isLatin1 6 = .ok (.aload_n 0, 1) := dk_42 (dk_at dksJ10_isLatin1_0 6 rfl rfl)
theorem dJ10_isLatin1_7 : decode cJ10_isLatin1 7 = .ok (.getfield 22, 3) := dk_180 0 22 (dk_at dksJ10_isLatin1_0 7 rfl rfl)
theorem dJ10_isLatin1_10 : decode cJ10_isLatin1 10 = .ok (.ifCond .ne 7, 3) := dk_154 0 7 (dk_at dksJ10_isLatin1_0 10 rfl rfl)
theorem dJ10_isLatin1_13 : decode cJ10_isLatin1 13 = .ok (.iconst 1, 1) := dk_4 (dk_at dksJ10_isLatin1_0 13 rfl rfl)
theorem dJ10_isLatin1_14 : decode cJ10_isLatin1 14 = .ok (.goto 4, 3) := dk_167 0 4 (dk_at dksJ10_isLatin1_0 14 rfl rfl)
theorem dJ10_isLatin1_17 : decode cJ10_isLatin1 17 = .ok (.iconst 0, 1) := dk_3 (dk_at dksJ10_isLatin1_0 17 rfl rfl)
theorem dJ10_isLatin1_18 : decode cJ10_isLatin1 18 = .ok (.ireturn, 1) := dk_172 (dk_at dksJ10_isLatin1_0 18 rfl rfl)
abbrev cJ10_putStringAt : ByteArray := prog_14_method_73_code
def yJ10_putStringAt : MethodName := ⟨RJ10, "putStringAt", "(ILjava/lang/String;)V"⟩
def dkwJ10_putStringAt_0 : List UInt8 := [42, 44, 182, 1, 141, 44, 42, 180, 0, 15, 27, 42, 180, 0, 22, 182, 1, 143, 177]
abbrev dktJ10_putStringAt_0 : List UInt8 := dkwJ10_putStringAt_0 ++ []
theorem dksJ10_putStringAt_0 : cJ10_putStringAt.data.toList.drop 0 = dktJ10_putStringAt_0 := by decide +kernel
theorem dJ10_putStringAt_0 : decode cJ10_putStringAt 0 = .ok (.aload_n 0, 1) := dk_42 (dk_at dksJ10_putStringAt_0 0 rfl rfl)
theorem dJ10_putStringAt_1 : decode cJ10_putStringAt 1 = .ok (.aload_n 2, 1) := dk_44 (dk_at dksJ10_putStringAt_0 1 rfl rfl)
theorem dJ10_putStringAt_2 : decode cJ10_putStringAt 2 = .ok (.invokevirtual 397, 3) := dk_182 1 141 (dk_at dksJ10_putStringAt_0 2 rfl rfl)
theorem dJ10_putStringAt_5 : decode cJ10_putStringAt 5 = .ok (.aload_n 2, 1) := dk_44 (dk_at dksJ10_putStringAt_0 5 rfl rfl)
theorem dJ10_putStringAt_6 : decode cJ10_putStringAt 6 = .ok (.aload_n 0, 1) := dk_42 (dk_at dksJ10_putStringAt_0 6 rfl rfl)
theorem dJ10_putStringAt_7 : decode cJ10_putStringAt 7 = .ok (.getfield 15, 3) := dk_180 0 15 (dk_at dksJ10_putStringAt_0 7 rfl rfl)
theorem dJ10_putStringAt_10 : decode cJ10_putStringAt 10 = .ok (.iload_n 1, 1) := dk_27 (dk_at dksJ10_putStringAt_0 10 rfl rfl)
theorem dJ10_putStringAt_11 : decode cJ10_putStringAt 11 = .ok (.aload_n 0, 1) := dk_42 (dk_at dksJ10_putStringAt_0 11 rfl rfl)
theorem dJ10_putStringAt_12 : decode cJ10_putStringAt 12 = .ok (.getfield 22, 3) := dk_180 0 22 (dk_at dksJ10_putStringAt_0 12 rfl rfl)
theorem dJ10_putStringAt_15 : decode cJ10_putStringAt 15 = .ok (.invokevirtual 399, 3) := dk_182 1 143 (dk_at dksJ10_putStringAt_0 15 rfl rfl)
theorem dJ10_putStringAt_18 : decode cJ10_putStringAt 18 = .ok (.return_, 1) := dk_177 (dk_at dksJ10_putStringAt_0 18 rfl rfl)
abbrev cJ10_inflateIfNeededFor : ByteArray := prog_14_method_71_code
def yJ10_inflateIfNeededFor : MethodName := ⟨RJ10, "inflateIfNeededFor", "(Ljava/lang/String;)V"⟩
def dkwJ10_inflateIfNeededFor_0 : List UInt8 := [178, 0, 18, 153, 0, 18, 42, 180, 0, 22, 43, 182, 0, 40, 159, 0, 7, 42, 182, 0, 195, 177]
abbrev dktJ10_inflateIfNeededFor_0 : List UInt8 := dkwJ10_inflateIfNeededFor_0 ++ []
theorem dksJ10_inflateIfNeededFor_0 : cJ10_inflateIfNeededFor.data.toList.drop 0 = dktJ10_inflateIfNeededFor_0 := by decide +kernel
theorem dJ10_inflateIfNeededFor_0 : decode cJ10_inflateIfNeededFor 0 = .ok (.getstatic 18, 3) := dk_178 0 18 (dk_at dksJ10_inflateIfNeededFor_0 0 rfl rfl)
theorem dJ10_inflateIfNeededFor_3 : decode cJ10_inflateIfNeededFor 3 = .ok (.ifCond .eq 18, 3) := dk_153 0 18 (dk_at dksJ10_inflateIfNeededFor_0 3 rfl rfl)
theorem dJ10_inflateIfNeededFor_6 : decode cJ10_inflateIfNeededFor 6 = .ok (.aload_n 0, 1) := dk_42 (dk_at dksJ10_inflateIfNeededFor_0 6 rfl rfl)
theorem dJ10_inflateIfNeededFor_7 : decode cJ10_inflateIfNeededFor 7 = .ok (.getfield 22, 3) := dk_180 0 22 (dk_at dksJ10_inflateIfNeededFor_0 7 rfl rfl)
theorem dJ10_inflateIfNeededFor_10 : decode cJ10_inflateIfNeededFor 10 = .ok (.aload_n 1, 1) := dk_43 (dk_at dksJ10_inflateIfNeededFor_0 10 rfl rfl)
theorem dJ10_inflateIfNeededFor_11 : decode cJ10_inflateIfNeededFor 11 = .ok (.invokevirtual 40, 3) := dk_182 0 40 (dk_at dksJ10_inflateIfNeededFor_0 11 rfl rfl)
theorem dJ10_inflateIfNeededFor_14 : decode cJ10_inflateIfNeededFor 14 = .ok (.if_icmp .eq 7, 3) := dk_159 0 7 (dk_at dksJ10_inflateIfNeededFor_0 14 rfl rfl)
theorem dJ10_inflateIfNeededFor_17 : decode cJ10_inflateIfNeededFor 17 = .ok (.aload_n 0, 1) := dk_42 (dk_at dksJ10_inflateIfNeededFor_0 17 rfl rfl)
theorem dJ10_inflateIfNeededFor_18 : decode cJ10_inflateIfNeededFor 18 = .ok (.invokevirtual 195, 3) := dk_182 0 195 (dk_at dksJ10_inflateIfNeededFor_0 18 rfl rfl)
theorem dJ10_inflateIfNeededFor_21 : decode cJ10_inflateIfNeededFor 21 = .ok (.return_, 1) := dk_177 (dk_at dksJ10_inflateIfNeededFor_0 21 rfl rfl)
abbrev cJ10_inflate : ByteArray := prog_14_method_11_code
def yJ10_inflate : MethodName := ⟨RJ10, "inflate", "()V"⟩
def dkwJ10_inflate_1 : List UInt8 := [42, 180, 0, 79, 184, 0, 125, 42, 43, 181, 0, 15, 42, 4, 181, 0, 22, 177]
abbrev dktJ10_inflate_1 : List UInt8 := dkwJ10_inflate_1 ++ []
def dkwJ10_inflate_0 : List UInt8 := [42, 182, 0, 83, 154, 0, 4, 177, 42, 180, 0, 15, 190, 184, 0, 26, 76, 42, 180, 0, 15, 3, 43, 3]
abbrev dktJ10_inflate_0 : List UInt8 := dkwJ10_inflate_0 ++ dktJ10_inflate_1
theorem dksJ10_inflate_0 : cJ10_inflate.data.toList.drop 0 = dktJ10_inflate_0 := by decide +kernel
theorem dksJ10_inflate_1 : cJ10_inflate.data.toList.drop 24 = dktJ10_inflate_1 := dk_seg dksJ10_inflate_0 24 rfl rfl
theorem dJ10_inflate_0 : decode cJ10_inflate 0 = .ok (.aload_n 0, 1) := dk_42 (dk_at dksJ10_inflate_0 0 rfl rfl)
theorem dJ10_inflate_1 : decode cJ10_inflate 1 = .ok (.invokevirtual 83, 3) := dk_182 0 83 (dk_at dksJ10_inflate_0 1 rfl rfl)
theorem dJ10_inflate_4 : decode cJ10_inflate 4 = .ok (.ifCond .ne 4, 3) := dk_154 0 4 (dk_at dksJ10_inflate_0 4 rfl rfl)
theorem dJ10_inflate_7 : decode cJ10_inflate 7 = .ok (.return_, 1) := dk_177 (dk_at dksJ10_inflate_0 7 rfl rfl)
theorem dJ10_inflate_8 : decode cJ10_inflate 8 = .ok (.aload_n 0, 1) := dk_42 (dk_at dksJ10_inflate_0 8 rfl rfl)
theorem dJ10_inflate_9 : decode cJ10_inflate 9 = .ok (.getfield 15, 3) := dk_180 0 15 (dk_at dksJ10_inflate_0 9 rfl rfl)
theorem dJ10_inflate_12 : decode cJ10_inflate 12 = .ok (.arraylength, 1) := dk_190 (dk_at dksJ10_inflate_0 12 rfl rfl)
theorem dJ10_inflate_13 : decode cJ10_inflate 13 = .ok (.invokestatic 26, 3) := dk_184 0 26 (dk_at dksJ10_inflate_0 13 rfl rfl)
theorem dJ10_inflate_16 : decode cJ10_inflate 16 = .ok (.astore_n 1, 1) := dk_76 (dk_at dksJ10_inflate_0 16 rfl rfl)
theorem dJ10_inflate_17 : decode cJ10_inflate 17 = .ok (.aload_n 0, 1) := dk_42 (dk_at dksJ10_inflate_0 17 rfl rfl)
theorem dJ10_inflate_18 : decode cJ10_inflate 18 = .ok (.getfield 15, 3) := dk_180 0 15 (dk_at dksJ10_inflate_0 18 rfl rfl)
theorem dJ10_inflate_21 : decode cJ10_inflate 21 = .ok (.iconst 0, 1) := dk_3 (dk_at dksJ10_inflate_0 21 rfl rfl)
theorem dJ10_inflate_22 : decode cJ10_inflate 22 = .ok (.aload_n 1, 1) := dk_43 (dk_at dksJ10_inflate_0 22 rfl rfl)
theorem dJ10_inflate_23 : decode cJ10_inflate 23 = .ok (.iconst 0, 1) := dk_3 (dk_at dksJ10_inflate_0 23 rfl rfl)
theorem dJ10_inflate_24 : decode cJ10_inflate 24 = .ok (.aload_n 0, 1) := dk_42 (dk_at dksJ10_inflate_1 0 rfl rfl)
theorem dJ10_inflate_25 : decode cJ10_inflate 25 = .ok (.getfield 79, 3) := dk_180 0 79 (dk_at dksJ10_inflate_1 1 rfl rfl)
theorem dJ10_inflate_28 : decode cJ10_inflate 28 = .ok (.invokestatic 125, 3) := dk_184 0 125 (dk_at dksJ10_inflate_1 4 rfl rfl)
theorem dJ10_inflate_31 : decode cJ10_inflate 31 = .ok (.aload_n 0, 1) := dk_42 (dk_at dksJ10_inflate_1 7 rfl rfl)
theorem dJ10_inflate_32 : decode cJ10_inflate 32 = .ok (.aload_n 1, 1) := dk_43 (dk_at dksJ10_inflate_1 8 rfl rfl)
theorem dJ10_inflate_33 : decode cJ10_inflate 33 = .ok (.putfield 15, 3) := dk_181 0 15 (dk_at dksJ10_inflate_1 9 rfl rfl)
theorem dJ10_inflate_36 : decode cJ10_inflate 36 = .ok (.aload_n 0, 1) := dk_42 (dk_at dksJ10_inflate_1 12 rfl rfl)
theorem dJ10_inflate_37 : decode cJ10_inflate 37 = .ok (.iconst 1, 1) := dk_4 (dk_at dksJ10_inflate_1 13 rfl rfl)
theorem dJ10_inflate_38 : decode cJ10_inflate 38 = .ok (.putfield 22, 3) := dk_181 0 22 (dk_at dksJ10_inflate_1 14 rfl rfl)
theorem dJ10_inflate_41 : decode cJ10_inflate 41 = .ok (.return_, 1) := dk_177 (dk_at dksJ10_inflate_1 17 rfl rfl)
abbrev cJ10_getValue : ByteArray := prog_14_method_64_code
def yJ10_getValue : MethodName := ⟨RJ10, "getValue", "()[B"⟩
theorem dJ10_getValue_0 : decode cJ10_getValue 0 = .ok (.aload_n 0, 1) := by decide +kernel
theorem dJ10_getValue_1 : decode cJ10_getValue 1 = .ok (.getfield 15, 3) := by decide +kernel
theorem dJ10_getValue_4 : decode cJ10_getValue 4 = .ok (.areturn, 1) := by decide +kernel
abbrev cJ10_length : ByteArray := prog_14_method_6_code
def yJ10_length : MethodName := ⟨RJ10, "length", "()I"⟩
theorem dJ10_length_0 : decode cJ10_length 0 = .ok (.aload_n 0, 1) := by decide +kernel
theorem dJ10_length_1 : decode cJ10_length 1 = .ok (.getfield 79, 3) := by decide +kernel
theorem dJ10_length_4 : decode cJ10_length 4 = .ok (.ireturn, 1) := by decide +kernel
abbrev cJ10_append_2 : ByteArray := prog_14_method_31_code
def yJ10_append_2 : MethodName := ⟨RJ10, "append", "(C)Ljava/lang/AbstractStringBuilder;"⟩
def dkwJ10_append_2_3 : List UInt8 := [181, 0, 79, 27, 184, 0, 197, 42, 176]
abbrev dktJ10_append_2_3 : List UInt8 := dkwJ10_append_2_3 ++ []
def dkwJ10_append_2_2 : List UInt8 := [182, 0, 83, 153, 0, 7, 42, 182, 0, 195, 42, 180, 0, 15, 42, 89, 180, 0, 79, 90, 4, 96]
abbrev dktJ10_append_2_2 : List UInt8 := dkwJ10_append_2_2 ++ dktJ10_append_2_3
def dkwJ10_append_2_1 : List UInt8 := [42, 180, 0, 15, 42, 89, 180, 0, 79, 90, 4, 96, 181, 0, 79, 27, 145, 84, 167, 0, 33, 42]
abbrev dktJ10_append_2_1 : List UInt8 := dkwJ10_append_2_1 ++ dktJ10_append_2_2
def dkwJ10_append_2_0 : List UInt8 := [42, 42, 180, 0, 79, 4, 96, 182, 0, 100, 42, 182, 0, 83, 153, 0, 31, 27, 184, 0, 191, 153, 0, 24]
abbrev dktJ10_append_2_0 : List UInt8 := dkwJ10_append_2_0 ++ dktJ10_append_2_1
theorem dksJ10_append_2_0 : cJ10_append_2.data.toList.drop 0 = dktJ10_append_2_0 := by decide +kernel
theorem dksJ10_append_2_1 : cJ10_append_2.data.toList.drop 24 = dktJ10_append_2_1 := dk_seg dksJ10_append_2_0 24 rfl rfl
theorem dksJ10_append_2_2 : cJ10_append_2.data.toList.drop 46 = dktJ10_append_2_2 := dk_seg dksJ10_append_2_1 22 rfl rfl
theorem dksJ10_append_2_3 : cJ10_append_2.data.toList.drop 68 = dktJ10_append_2_3 := dk_seg dksJ10_append_2_2 22 rfl rfl
theorem dJ10_append_2_0 : decode cJ10_append_2 0 = .ok (.aload_n 0, 1) := dk_42 (dk_at dksJ10_append_2_0 0 rfl rfl)
theorem dJ10_append_2_1 : decode cJ10_append_2 1 = .ok (.aload_n 0, 1) := dk_42 (dk_at dksJ10_append_2_0 1 rfl rfl)
theorem dJ10_append_2_2 : decode cJ10_append_2 2 = .ok (.getfield 79, 3) := dk_180 0 79 (dk_at dksJ10_append_2_0 2 rfl rfl)
theorem dJ10_append_2_5 : decode cJ10_append_2 5 = .ok (.iconst 1, 1) := dk_4 (dk_at dksJ10_append_2_0 5 rfl rfl)
theorem dJ10_append_2_6 : decode cJ10_append_2 6 = .ok (.iadd, 1) := dk_96 (dk_at dksJ10_append_2_0 6 rfl rfl)
theorem dJ10_append_2_7 : decode cJ10_append_2 7 = .ok (.invokevirtual 100, 3) := dk_182 0 100 (dk_at dksJ10_append_2_0 7 rfl rfl)
theorem dJ10_append_2_10 : decode cJ10_append_2 10 = .ok (.aload_n 0, 1) := dk_42 (dk_at dksJ10_append_2_0 10 rfl rfl)
theorem dJ10_append_2_11 : decode cJ10_append_2 11 = .ok (.invokevirtual 83, 3) := dk_182 0 83 (dk_at dksJ10_append_2_0 11 rfl rfl)
theorem dJ10_append_2_14 : decode cJ10_append_2 14 = .ok (.ifCond .eq 31, 3) := dk_153 0 31 (dk_at dksJ10_append_2_0 14 rfl rfl)
theorem dJ10_append_2_17 : decode cJ10_append_2 17 = .ok (.iload_n 1, 1) := dk_27 (dk_at dksJ10_append_2_0 17 rfl rfl)
theorem dJ10_append_2_18 : decode cJ10_append_2 18 = .ok (.invokestatic 191, 3) := dk_184 0 191 (dk_at dksJ10_append_2_0 18 rfl rfl)
theorem dJ10_append_2_21 : decode cJ10_append_2 21 = .ok (.ifCond .eq 24, 3) := dk_153 0 24 (dk_at dksJ10_append_2_0 21 rfl rfl)
theorem dJ10_append_2_24 : decode cJ10_append_2 24 = .ok (.aload_n 0, 1) := dk_42 (dk_at dksJ10_append_2_1 0 rfl rfl)
theorem dJ10_append_2_25 : decode cJ10_append_2 25 = .ok (.getfield 15, 3) := dk_180 0 15 (dk_at dksJ10_append_2_1 1 rfl rfl)
theorem dJ10_append_2_28 : decode cJ10_append_2 28 = .ok (.aload_n 0, 1) := dk_42 (dk_at dksJ10_append_2_1 4 rfl rfl)
theorem dJ10_append_2_29 : decode cJ10_append_2 29 = .ok (.dup, 1) := dk_89 (dk_at dksJ10_append_2_1 5 rfl rfl)
theorem dJ10_append_2_30 : decode cJ10_append_2 30 = .ok (.getfield 79, 3) := dk_180 0 79 (dk_at dksJ10_append_2_1 6 rfl rfl)
theorem dJ10_append_2_33 : decode cJ10_append_2 33 = .ok (.dup_x1, 1) := dk_90 (dk_at dksJ10_append_2_1 9 rfl rfl)
theorem dJ10_append_2_34 : decode cJ10_append_2 34 = .ok (.iconst 1, 1) := dk_4 (dk_at dksJ10_append_2_1 10 rfl rfl)
theorem dJ10_append_2_35 : decode cJ10_append_2 35 = .ok (.iadd, 1) := dk_96 (dk_at dksJ10_append_2_1 11 rfl rfl)
theorem dJ10_append_2_36 : decode cJ10_append_2 36 = .ok (.putfield 79, 3) := dk_181 0 79 (dk_at dksJ10_append_2_1 12 rfl rfl)
theorem dJ10_append_2_39 : decode cJ10_append_2 39 = .ok (.iload_n 1, 1) := dk_27 (dk_at dksJ10_append_2_1 15 rfl rfl)
theorem dJ10_append_2_40 : decode cJ10_append_2 40 = .ok (.i2b, 1) := dk_145 (dk_at dksJ10_append_2_1 16 rfl rfl)
theorem dJ10_append_2_41 : decode cJ10_append_2 41 = .ok (.bastore, 1) := dk_84 (dk_at dksJ10_append_2_1 17 rfl rfl)
theorem dJ10_append_2_42 : decode cJ10_append_2 42 = .ok (.goto 33, 3) := dk_167 0 33 (dk_at dksJ10_append_2_1 18 rfl rfl)
theorem dJ10_append_2_45 : decode cJ10_append_2 45 = .ok (.aload_n 0, 1) := dk_42 (dk_at dksJ10_append_2_1 21 rfl rfl)
theorem dJ10_append_2_46 : decode cJ10_append_2 46 = .ok (.invokevirtual 83, 3) := dk_182 0 83 (dk_at dksJ10_append_2_2 0 rfl rfl)
theorem dJ10_append_2_49 : decode cJ10_append_2 49 = .ok (.ifCond .eq 7, 3) := dk_153 0 7 (dk_at dksJ10_append_2_2 3 rfl rfl)
theorem dJ10_append_2_52 : decode cJ10_append_2 52 = .ok (.aload_n 0, 1) := dk_42 (dk_at dksJ10_append_2_2 6 rfl rfl)
theorem dJ10_append_2_53 : decode cJ10_append_2 53 = .ok (.invokevirtual 195, 3) := dk_182 0 195 (dk_at dksJ10_append_2_2 7 rfl rfl)
theorem dJ10_append_2_56 : decode cJ10_append_2 56 = .ok (.aload_n 0, 1) := dk_42 (dk_at dksJ10_append_2_2 10 rfl rfl)
theorem dJ10_append_2_57 : decode cJ10_append_2 57 = .ok (.getfield 15, 3) := dk_180 0 15 (dk_at dksJ10_append_2_2 11 rfl rfl)
theorem dJ10_append_2_60 : decode cJ10_append_2 60 = .ok (.aload_n 0, 1) := dk_42 (dk_at dksJ10_append_2_2 14 rfl rfl)
theorem dJ10_append_2_61 : decode cJ10_append_2 61 = .ok (.dup, 1) := dk_89 (dk_at dksJ10_append_2_2 15 rfl rfl)
theorem dJ10_append_2_62 : decode cJ10_append_2 62 = .ok (.getfield 79, 3) := dk_180 0 79 (dk_at dksJ10_append_2_2 16 rfl rfl)
theorem dJ10_append_2_65 : decode cJ10_append_2 65 = .ok (.dup_x1, 1) := dk_90 (dk_at dksJ10_append_2_2 19 rfl rfl)
theorem dJ10_append_2_66 : decode cJ10_append_2 66 = .ok (.iconst 1, 1) := dk_4 (dk_at dksJ10_append_2_2 20 rfl rfl)
theorem dJ10_append_2_67 : decode cJ10_append_2 67 = .ok (.iadd, 1) := dk_96 (dk_at dksJ10_append_2_2 21 rfl rfl)
theorem dJ10_append_2_68 : decode cJ10_append_2 68 = .ok (.putfield 79, 3) := dk_181 0 79 (dk_at dksJ10_append_2_3 0 rfl rfl)
theorem dJ10_append_2_71 : decode cJ10_append_2 71 = .ok (.iload_n 1, 1) := dk_27 (dk_at dksJ10_append_2_3 3 rfl rfl)
theorem dJ10_append_2_72 : decode cJ10_append_2 72 = .ok (.invokestatic 197, 3) := dk_184 0 197 (dk_at dksJ10_append_2_3 4 rfl rfl)
theorem dJ10_append_2_75 : decode cJ10_append_2 75 = .ok (.aload_n 0, 1) := dk_42 (dk_at dksJ10_append_2_3 7 rfl rfl)
theorem dJ10_append_2_76 : decode cJ10_append_2 76 = .ok (.areturn, 1) := dk_176 (dk_at dksJ10_append_2_3 8 rfl rfl)
abbrev cJ10_charAt : ByteArray := prog_14_method_14_code
def yJ10_charAt : MethodName := ⟨RJ10, "charAt", "(I)C"⟩
def dkwJ10_charAt_1 : List UInt8 := [21, 4, 184, 0, 144, 28, 154, 0, 12, 45, 27, 51, 17, 0, 255, 126, 146, 172, 45, 27, 184, 0, 148, 172]
abbrev dktJ10_charAt_1 : List UInt8 := dkwJ10_charAt_1 ++ []
def dkwJ10_charAt_0 : List UInt8 := [42, 180, 0, 22, 61, 42, 180, 0, 15, 78, 42, 180, 0, 79, 45, 190, 28, 122, 184, 0, 138, 54, 4, 27]
abbrev dktJ10_charAt_0 : List UInt8 := dkwJ10_charAt_0 ++ dktJ10_charAt_1
theorem dksJ10_charAt_0 : cJ10_charAt.data.toList.drop 0 = dktJ10_charAt_0 := by decide +kernel
theorem dksJ10_charAt_1 : cJ10_charAt.data.toList.drop 24 = dktJ10_charAt_1 := dk_seg dksJ10_charAt_0 24 rfl rfl
theorem dJ10_charAt_0 : decode cJ10_charAt 0 = .ok (.aload_n 0, 1) := dk_42 (dk_at dksJ10_charAt_0 0 rfl rfl)
theorem dJ10_charAt_1 : decode cJ10_charAt 1 = .ok (.getfield 22, 3) := dk_180 0 22 (dk_at dksJ10_charAt_0 1 rfl rfl)
theorem dJ10_charAt_4 : decode cJ10_charAt 4 = .ok (.istore_n 2, 1) := dk_61 (dk_at dksJ10_charAt_0 4 rfl rfl)
theorem dJ10_charAt_5 : decode cJ10_charAt 5 = .ok (.aload_n 0, 1) := dk_42 (dk_at dksJ10_charAt_0 5 rfl rfl)
theorem dJ10_charAt_6 : decode cJ10_charAt 6 = .ok (.getfield 15, 3) := dk_180 0 15 (dk_at dksJ10_charAt_0 6 rfl rfl)
theorem dJ10_charAt_9 : decode cJ10_charAt 9 = .ok (.astore_n 3, 1) := dk_78 (dk_at dksJ10_charAt_0 9 rfl rfl)
theorem dJ10_charAt_10 : decode cJ10_charAt 10 = .ok (.aload_n 0, 1) := dk_42 (dk_at dksJ10_charAt_0 10 rfl rfl)
theorem dJ10_charAt_11 : decode cJ10_charAt 11 = .ok (.getfield 79, 3) := dk_180 0 79 (dk_at dksJ10_charAt_0 11 rfl rfl)
theorem dJ10_charAt_14 : decode cJ10_charAt 14 = .ok (.aload_n 3, 1) := dk_45 (dk_at dksJ10_charAt_0 14 rfl rfl)
theorem dJ10_charAt_15 : decode cJ10_charAt 15 = .ok (.arraylength, 1) := dk_190 (dk_at dksJ10_charAt_0 15 rfl rfl)
theorem dJ10_charAt_16 : decode cJ10_charAt 16 = .ok (.iload_n 2, 1) := dk_28 (dk_at dksJ10_charAt_0 16 rfl rfl)
theorem dJ10_charAt_17 : decode cJ10_charAt 17 = .ok (.ishr, 1) := dk_122 (dk_at dksJ10_charAt_0 17 rfl rfl)
theorem dJ10_charAt_18 : decode cJ10_charAt 18 = .ok (.invokestatic 138, 3) := dk_184 0 138 (dk_at dksJ10_charAt_0 18 rfl rfl)
theorem dJ10_charAt_21 : decode cJ10_charAt 21 = .ok (.istore 4, 2) := dk_54 4 (dk_at dksJ10_charAt_0 21 rfl rfl)
theorem dJ10_charAt_23 : decode cJ10_charAt 23 = .ok (.iload_n 1, 1) := dk_27 (dk_at dksJ10_charAt_0 23 rfl rfl)
theorem dJ10_charAt_24 : decode cJ10_charAt 24 = .ok (.iload 4, 2) := dk_21 4 (dk_at dksJ10_charAt_1 0 rfl rfl)
theorem dJ10_charAt_26 : decode cJ10_charAt 26 = .ok (.invokestatic 144, 3) := dk_184 0 144 (dk_at dksJ10_charAt_1 2 rfl rfl)
theorem dJ10_charAt_29 : decode cJ10_charAt 29 = .ok (.iload_n 2, 1) := dk_28 (dk_at dksJ10_charAt_1 5 rfl rfl)
theorem dJ10_charAt_30 : decode cJ10_charAt 30 = .ok (.ifCond .ne 12, 3) := dk_154 0 12 (dk_at dksJ10_charAt_1 6 rfl rfl)
theorem dJ10_charAt_33 : decode cJ10_charAt 33 = .ok (.aload_n 3, 1) := dk_45 (dk_at dksJ10_charAt_1 9 rfl rfl)
theorem dJ10_charAt_34 : decode cJ10_charAt 34 = .ok (.iload_n 1, 1) := dk_27 (dk_at dksJ10_charAt_1 10 rfl rfl)
theorem dJ10_charAt_35 : decode cJ10_charAt 35 = .ok (.baload, 1) := dk_51 (dk_at dksJ10_charAt_1 11 rfl rfl)
theorem dJ10_charAt_36 : decode cJ10_charAt 36 = .ok (.sipush 255, 3) := dk_17 0 255 (dk_at dksJ10_charAt_1 12 rfl rfl)
theorem dJ10_charAt_39 : decode cJ10_charAt 39 = .ok (.iand, 1) := dk_126 (dk_at dksJ10_charAt_1 15 rfl rfl)
theorem dJ10_charAt_40 : decode cJ10_charAt 40 = .ok (.i2c, 1) := dk_146 (dk_at dksJ10_charAt_1 16 rfl rfl)
theorem dJ10_charAt_41 : decode cJ10_charAt 41 = .ok (.ireturn, 1) := dk_172 (dk_at dksJ10_charAt_1 17 rfl rfl)
theorem dJ10_charAt_42 : decode cJ10_charAt 42 = .ok (.aload_n 3, 1) := dk_45 (dk_at dksJ10_charAt_1 18 rfl rfl)
theorem dJ10_charAt_43 : decode cJ10_charAt 43 = .ok (.iload_n 1, 1) := dk_27 (dk_at dksJ10_charAt_1 19 rfl rfl)
theorem dJ10_charAt_44 : decode cJ10_charAt 44 = .ok (.invokestatic 148, 3) := dk_184 0 148 (dk_at dksJ10_charAt_1 20 rfl rfl)
theorem dJ10_charAt_47 : decode cJ10_charAt 47 = .ok (.ireturn, 1) := dk_172 (dk_at dksJ10_charAt_1 23 rfl rfl)
abbrev cJ10_setLength : ByteArray := prog_14_method_13_code
def yJ10_setLength : MethodName := ⟨RJ10, "setLength", "(I)V"⟩
def dkwJ10_setLength_3 : List UInt8 := [164, 0, 8, 42, 4, 181, 0, 73, 42, 27, 181, 0, 79, 177]
abbrev dktJ10_setLength_3 : List UInt8 := dkwJ10_setLength_3 ++ []
def dkwJ10_setLength_2 : List UInt8 := [167, 0, 31, 42, 180, 0, 15, 42, 180, 0, 79, 27, 184, 0, 137, 167, 0, 16, 42, 180, 0, 79, 27]
abbrev dktJ10_setLength_2 : List UInt8 := dkwJ10_setLength_2 ++ dktJ10_setLength_3
def dkwJ10_setLength_1 : List UInt8 := [162, 0, 40, 42, 182, 0, 83, 153, 0, 18, 42, 180, 0, 15, 42, 180, 0, 79, 27, 184, 0, 133]
abbrev dktJ10_setLength_1 : List UInt8 := dkwJ10_setLength_1 ++ dktJ10_setLength_2
def dkwJ10_setLength_0 : List UInt8 := [27, 156, 0, 12, 187, 0, 129, 89, 27, 183, 0, 131, 191, 42, 27, 182, 0, 100, 42, 180, 0, 79, 27]
abbrev dktJ10_setLength_0 : List UInt8 := dkwJ10_setLength_0 ++ dktJ10_setLength_1
theorem dksJ10_setLength_0 : cJ10_setLength.data.toList.drop 0 = dktJ10_setLength_0 := by decide +kernel
theorem dksJ10_setLength_1 : cJ10_setLength.data.toList.drop 23 = dktJ10_setLength_1 := dk_seg dksJ10_setLength_0 23 rfl rfl
theorem dksJ10_setLength_2 : cJ10_setLength.data.toList.drop 45 = dktJ10_setLength_2 := dk_seg dksJ10_setLength_1 22 rfl rfl
theorem dksJ10_setLength_3 : cJ10_setLength.data.toList.drop 68 = dktJ10_setLength_3 := dk_seg dksJ10_setLength_2 23 rfl rfl
theorem dJ10_setLength_0 : decode cJ10_setLength 0 = .ok (.iload_n 1, 1) := dk_27 (dk_at dksJ10_setLength_0 0 rfl rfl)
theorem dJ10_setLength_1 : decode cJ10_setLength 1 = .ok (.ifCond .ge 12, 3) := dk_156 0 12 (dk_at dksJ10_setLength_0 1 rfl rfl)
theorem dJ10_setLength_4 : decode cJ10_setLength 4 = .ok (.new 129, 3) := dk_187 0 129 (dk_at dksJ10_setLength_0 4 rfl rfl)
theorem dJ10_setLength_7 : decode cJ10_setLength 7 = .ok (.dup, 1) := dk_89 (dk_at dksJ10_setLength_0 7 rfl rfl)
theorem dJ10_setLength_8 : decode cJ10_setLength 8 = .ok (.iload_n 1, 1) := dk_27 (dk_at dksJ10_setLength_0 8 rfl rfl)
theorem dJ10_setLength_9 : decode cJ10_setLength 9 = .ok (.invokespecial 131, 3) := dk_183 0 131 (dk_at dksJ10_setLength_0 9 rfl rfl)
theorem dJ10_setLength_12 : decode cJ10_setLength 12 = .ok (.athrow, 1) := dk_191 (dk_at dksJ10_setLength_0 12 rfl rfl)
theorem dJ10_setLength_13 : decode cJ10_setLength 13 = .ok (.aload_n 0, 1) := dk_42 (dk_at dksJ10_setLength_0 13 rfl rfl)
theorem dJ10_setLength_14 : decode cJ10_setLength 14 = .ok (.iload_n 1, 1) := dk_27 (dk_at dksJ10_setLength_0 14 rfl rfl)
theorem dJ10_setLength_15 : decode cJ10_setLength 15 = .ok (.invokevirtual 100, 3) := dk_182 0 100 (dk_at dksJ10_setLength_0 15 rfl rfl)
theorem dJ10_setLength_18 : decode cJ10_setLength 18 = .ok (.aload_n 0, 1) := dk_42 (dk_at dksJ10_setLength_0 18 rfl rfl)
theorem dJ10_setLength_19 : decode cJ10_setLength 19 = .ok (.getfield 79, 3) := dk_180 0 79 (dk_at dksJ10_setLength_0 19 rfl rfl)
theorem dJ10_setLength_22 : decode cJ10_setLength 22 = .ok (.iload_n 1, 1) := dk_27 (dk_at dksJ10_setLength_0 22 rfl rfl)
theorem dJ10_setLength_23 : decode cJ10_setLength 23 = .ok (.if_icmp .ge 40, 3) := dk_162 0 40 (dk_at dksJ10_setLength_1 0 rfl rfl)
theorem dJ10_setLength_26 : decode cJ10_setLength 26 = .ok (.aload_n 0, 1) := dk_42 (dk_at dksJ10_setLength_1 3 rfl rfl)
theorem dJ10_setLength_27 : decode cJ10_setLength 27 = .ok (.invokevirtual 83, 3) := dk_182 0 83 (dk_at dksJ10_setLength_1 4 rfl rfl)
theorem dJ10_setLength_30 : decode cJ10_setLength 30 = .ok (.ifCond .eq 18, 3) := dk_153 0 18 (dk_at dksJ10_setLength_1 7 rfl rfl)
theorem dJ10_setLength_33 : decode cJ10_setLength 33 = .ok (.aload_n 0, 1) := dk_42 (dk_at dksJ10_setLength_1 10 rfl rfl)
theorem dJ10_setLength_34 : decode cJ10_setLength 34 = .ok (.getfield 15, 3) := dk_180 0 15 (dk_at dksJ10_setLength_1 11 rfl rfl)
theorem dJ10_setLength_37 : decode cJ10_setLength 37 = .ok (.aload_n 0, 1) := dk_42 (dk_at dksJ10_setLength_1 14 rfl rfl)
theorem dJ10_setLength_38 : decode cJ10_setLength 38 = .ok (.getfield 79, 3) := dk_180 0 79 (dk_at dksJ10_setLength_1 15 rfl rfl)
theorem dJ10_setLength_41 : decode cJ10_setLength 41 = .ok (.iload_n 1, 1) := dk_27 (dk_at dksJ10_setLength_1 18 rfl rfl)
theorem dJ10_setLength_42 : decode cJ10_setLength 42 = .ok (.invokestatic 133, 3) := dk_184 0 133 (dk_at dksJ10_setLength_1 19 rfl rfl)
theorem dJ10_setLength_45 : decode cJ10_setLength 45 = .ok (.goto 31, 3) := dk_167 0 31 (dk_at dksJ10_setLength_2 0 rfl rfl)
theorem dJ10_setLength_48 : decode cJ10_setLength 48 = .ok (.aload_n 0, 1) := dk_42 (dk_at dksJ10_setLength_2 3 rfl rfl)
theorem dJ10_setLength_49 : decode cJ10_setLength 49 = .ok (.getfield 15, 3) := dk_180 0 15 (dk_at dksJ10_setLength_2 4 rfl rfl)
theorem dJ10_setLength_52 : decode cJ10_setLength 52 = .ok (.aload_n 0, 1) := dk_42 (dk_at dksJ10_setLength_2 7 rfl rfl)
theorem dJ10_setLength_53 : decode cJ10_setLength 53 = .ok (.getfield 79, 3) := dk_180 0 79 (dk_at dksJ10_setLength_2 8 rfl rfl)
theorem dJ10_setLength_56 : decode cJ10_setLength 56 = .ok (.iload_n 1, 1) := dk_27 (dk_at dksJ10_setLength_2 11 rfl rfl)
theorem dJ10_setLength_57 : decode cJ10_setLength 57 = .ok (.invokestatic 137, 3) := dk_184 0 137 (dk_at dksJ10_setLength_2 12 rfl rfl)
theorem dJ10_setLength_60 : decode cJ10_setLength 60 = .ok (.goto 16, 3) := dk_167 0 16 (dk_at dksJ10_setLength_2 15 rfl rfl)
theorem dJ10_setLength_63 : decode cJ10_setLength 63 = .ok (.aload_n 0, 1) := dk_42 (dk_at dksJ10_setLength_2 18 rfl rfl)
theorem dJ10_setLength_64 : decode cJ10_setLength 64 = .ok (.getfield 79, 3) := dk_180 0 79 (dk_at dksJ10_setLength_2 19 rfl rfl)
theorem dJ10_setLength_67 : decode cJ10_setLength 67 = .ok (.iload_n 1, 1) := dk_27 (dk_at dksJ10_setLength_2 22 rfl rfl)
theorem dJ10_setLength_68 : decode cJ10_setLength 68 = .ok (.if_icmp .le 8, 3) := dk_164 0 8 (dk_at dksJ10_setLength_3 0 rfl rfl)
theorem dJ10_setLength_71 : decode cJ10_setLength 71 = .ok (.aload_n 0, 1) := dk_42 (dk_at dksJ10_setLength_3 3 rfl rfl)
theorem dJ10_setLength_72 : decode cJ10_setLength 72 = .ok (.iconst 1, 1) := dk_4 (dk_at dksJ10_setLength_3 4 rfl rfl)
theorem dJ10_setLength_73 : decode cJ10_setLength 73 = .ok (.putfield 73, 3) := dk_181 0 73 (dk_at dksJ10_setLength_3 5 rfl rfl)
theorem dJ10_setLength_76 : decode cJ10_setLength 76 = .ok (.aload_n 0, 1) := dk_42 (dk_at dksJ10_setLength_3 8 rfl rfl)
theorem dJ10_setLength_77 : decode cJ10_setLength 77 = .ok (.iload_n 1, 1) := dk_27 (dk_at dksJ10_setLength_3 9 rfl rfl)
theorem dJ10_setLength_78 : decode cJ10_setLength 78 = .ok (.putfield 79, 3) := dk_181 0 79 (dk_at dksJ10_setLength_3 10 rfl rfl)
theorem dJ10_setLength_81 : decode cJ10_setLength 81 = .ok (.return_, 1) := dk_177 (dk_at dksJ10_setLength_3 13 rfl rfl)
abbrev cJ10_append_3 : ByteArray := prog_14_method_32_code
def yJ10_append_3 : MethodName := ⟨RJ10, "append", "(I)Ljava/lang/AbstractStringBuilder;"⟩
def dkwJ10_append_3_2 : List UInt8 := [42, 29, 181, 0, 79, 42, 176]
abbrev dktJ10_append_3_2 : List UInt8 := dkwJ10_append_3_2 ++ []
def dkwJ10_append_3_1 : List UInt8 := [27, 29, 42, 180, 0, 15, 184, 0, 248, 87, 167, 0, 14, 27, 28, 29, 42, 180, 0, 15, 184, 0, 251, 87]
abbrev dktJ10_append_3_1 : List UInt8 := dkwJ10_append_3_1 ++ dktJ10_append_3_2
def dkwJ10_append_3_0 : List UInt8 := [42, 180, 0, 79, 61, 28, 27, 184, 0, 245, 96, 62, 42, 29, 182, 0, 100, 42, 182, 0, 83, 153, 0, 16]
abbrev dktJ10_append_3_0 : List UInt8 := dkwJ10_append_3_0 ++ dktJ10_append_3_1
theorem dksJ10_append_3_0 : cJ10_append_3.data.toList.drop 0 = dktJ10_append_3_0 := by decide +kernel
theorem dksJ10_append_3_1 : cJ10_append_3.data.toList.drop 24 = dktJ10_append_3_1 := dk_seg dksJ10_append_3_0 24 rfl rfl
theorem dksJ10_append_3_2 : cJ10_append_3.data.toList.drop 48 = dktJ10_append_3_2 := dk_seg dksJ10_append_3_1 24 rfl rfl
theorem dJ10_append_3_0 : decode cJ10_append_3 0 = .ok (.aload_n 0, 1) := dk_42 (dk_at dksJ10_append_3_0 0 rfl rfl)
theorem dJ10_append_3_1 : decode cJ10_append_3 1 = .ok (.getfield 79, 3) := dk_180 0 79 (dk_at dksJ10_append_3_0 1 rfl rfl)
theorem dJ10_append_3_4 : decode cJ10_append_3 4 = .ok (.istore_n 2, 1) := dk_61 (dk_at dksJ10_append_3_0 4 rfl rfl)
theorem dJ10_append_3_5 : decode cJ10_append_3 5 = .ok (.iload_n 2, 1) := dk_28 (dk_at dksJ10_append_3_0 5 rfl rfl)
theorem dJ10_append_3_6 : decode cJ10_append_3 6 = .ok (.iload_n 1, 1) := dk_27 (dk_at dksJ10_append_3_0 6 rfl rfl)
theorem dJ10_append_3_7 : decode cJ10_append_3 7 = .ok (.invokestatic 245, 3) := dk_184 0 245 (dk_at dksJ10_append_3_0 7 rfl rfl)
theorem dJ10_append_3_10 : decode cJ10_append_3 10 = .ok (.iadd, 1) := dk_96 (dk_at dksJ10_append_3_0 10 rfl rfl)
theorem dJ10_append_3_11 : decode cJ10_append_3 11 = .ok (.istore_n 3, 1) := dk_62 (dk_at dksJ10_append_3_0 11 rfl rfl)
theorem dJ10_append_3_12 : decode cJ10_append_3 12 = .ok (.aload_n 0, 1) := dk_42 (dk_at dksJ10_append_3_0 12 rfl rfl)
theorem dJ10_append_3_13 : decode cJ10_append_3 13 = .ok (.iload_n 3, 1) := dk_29 (dk_at dksJ10_append_3_0 13 rfl rfl)
theorem dJ10_append_3_14 : decode cJ10_append_3 14 = .ok (.invokevirtual 100, 3) := dk_182 0 100 (dk_at dksJ10_append_3_0 14 rfl rfl)
theorem dJ10_append_3_17 : decode cJ10_append_3 17 = .ok (.aload_n 0, 1) := dk_42 (dk_at dksJ10_append_3_0 17 rfl rfl)
theorem dJ10_append_3_18 : decode cJ10_append_3 18 = .ok (.invokevirtual 83, 3) := dk_182 0 83 (dk_at dksJ10_append_3_0 18 rfl rfl)
theorem dJ10_append_3_21 : decode cJ10_append_3 21 = .ok (.ifCond .eq 16, 3) := dk_153 0 16 (dk_at dksJ10_append_3_0 21 rfl rfl)
theorem dJ10_append_3_24 : decode cJ10_append_3 24 = .ok (.iload_n 1, 1) := dk_27 (dk_at dksJ10_append_3_1 0 rfl rfl)
theorem dJ10_append_3_25 : decode cJ10_append_3 25 = .ok (.iload_n 3, 1) := dk_29 (dk_at dksJ10_append_3_1 1 rfl rfl)
theorem dJ10_append_3_26 : decode cJ10_append_3 26 = .ok (.aload_n 0, 1) := dk_42 (dk_at dksJ10_append_3_1 2 rfl rfl)
theorem dJ10_append_3_27 : decode cJ10_append_3 27 = .ok (.getfield 15, 3) := dk_180 0 15 (dk_at dksJ10_append_3_1 3 rfl rfl)
theorem dJ10_append_3_30 : decode cJ10_append_3 30 = .ok (.invokestatic 248, 3) := dk_184 0 248 (dk_at dksJ10_append_3_1 6 rfl rfl)
theorem dJ10_append_3_33 : decode cJ10_append_3 33 = .ok (.pop, 1) := dk_87 (dk_at dksJ10_append_3_1 9 rfl rfl)
theorem dJ10_append_3_34 : decode cJ10_append_3 34 = .ok (.goto 14, 3) := dk_167 0 14 (dk_at dksJ10_append_3_1 10 rfl rfl)
theorem dJ10_append_3_37 : decode cJ10_append_3 37 = .ok (.iload_n 1, 1) := dk_27 (dk_at dksJ10_append_3_1 13 rfl rfl)
theorem dJ10_append_3_38 : decode cJ10_append_3 38 = .ok (.iload_n 2, 1) := dk_28 (dk_at dksJ10_append_3_1 14 rfl rfl)
theorem dJ10_append_3_39 : decode cJ10_append_3 39 = .ok (.iload_n 3, 1) := dk_29 (dk_at dksJ10_append_3_1 15 rfl rfl)
theorem dJ10_append_3_40 : decode cJ10_append_3 40 = .ok (.aload_n 0, 1) := dk_42 (dk_at dksJ10_append_3_1 16 rfl rfl)
theorem dJ10_append_3_41 : decode cJ10_append_3 41 = .ok (.getfield 15, 3) := dk_180 0 15 (dk_at dksJ10_append_3_1 17 rfl rfl)
theorem dJ10_append_3_44 : decode cJ10_append_3 44 = .ok (.invokestatic 251, 3) := dk_184 0 251 (dk_at dksJ10_append_3_1 20 rfl rfl)
theorem dJ10_append_3_47 : decode cJ10_append_3 47 = .ok (.pop, 1) := dk_87 (dk_at dksJ10_append_3_1 23 rfl rfl)
theorem dJ10_append_3_48 : decode cJ10_append_3 48 = .ok (.aload_n 0, 1) := dk_42 (dk_at dksJ10_append_3_2 0 rfl rfl)
theorem dJ10_append_3_49 : decode cJ10_append_3 49 = .ok (.iload_n 3, 1) := dk_29 (dk_at dksJ10_append_3_2 1 rfl rfl)
theorem dJ10_append_3_50 : decode cJ10_append_3 50 = .ok (.putfield 79, 3) := dk_181 0 79 (dk_at dksJ10_append_3_2 2 rfl rfl)
theorem dJ10_append_3_53 : decode cJ10_append_3 53 = .ok (.aload_n 0, 1) := dk_42 (dk_at dksJ10_append_3_2 5 rfl rfl)
theorem dJ10_append_3_54 : decode cJ10_append_3 54 = .ok (.areturn, 1) := dk_176 (dk_at dksJ10_append_3_2 6 rfl rfl)
theorem q78 : (Jvm.Cond.initialized "java/lang/AbstractStringBuilder") ∈ lw_all := lw_g (lw_at lw_m1 15 rfl) rfl
theorem q376 : (Jvm.Cond.instanceMethod ({ cls := "java/lang/AbstractStringBuilder", name := "<init>", desc := "(I)V" } : Jvm.MethodName)) ∈ lw_all := lw_g (lw_at lw_m2 73 rfl) rfl
theorem q377 : (Jvm.Cond.code ({ cls := "java/lang/AbstractStringBuilder", name := "<init>", desc := "(I)V" } : Jvm.MethodName) prog_14_method_2_code (2 : Nat) (Option.none : Option Jvm.ClassFile.FieldType)) ∈ lw_all := lw_g (lw_at lw_m2 74 rfl) rfl
theorem q378 : (Jvm.Cond.methodLink "java/lang/AbstractStringBuilder" (3 : Nat) ({ cls := "java/lang/Object", name := "<init>", desc := "()V" } : Jvm.MethodName)) ∈ lw_all := lw_g (lw_at lw_m2 75 rfl) rfl
theorem q379 : (Jvm.Cond.fieldLink "java/lang/AbstractStringBuilder" (18 : Nat) "java/lang/String" "COMPACT_STRINGS" "Z") ∈ lw_all := lw_g (lw_at lw_m2 76 rfl) rfl
theorem q381 : (Jvm.Cond.methodLink "java/lang/AbstractStringBuilder" (26 : Nat) ({ cls := "java/lang/StringUTF16", name := "newBytesFor", desc := "(I)[B" } : Jvm.MethodName)) ∈ lw_all := lw_g (lw_at lw_m2 78 rfl) rfl
theorem q388 : (Jvm.Cond.fieldLink "java/lang/AbstractStringBuilder" (15 : Nat) "java/lang/AbstractStringBuilder" "value" "[B") ∈ lw_all := lw_g (lw_at lw_m2 85 rfl) rfl
theorem q389 : (Jvm.Cond.fieldLink "java/lang/AbstractStringBuilder" (22 : Nat) "java/lang/AbstractStringBuilder" "coder" "B") ∈ lw_all := lw_g (lw_at lw_m2 86 rfl) rfl
theorem q390 : (Jvm.Cond.fieldLink "java/lang/AbstractStringBuilder" (73 : Nat) "java/lang/AbstractStringBuilder" "maybeLatin1" "Z") ∈ lw_all := lw_g (lw_at lw_m2 87 rfl) rfl
theorem q392 : (Jvm.Cond.fieldLink "java/lang/AbstractStringBuilder" (79 : Nat) "java/lang/AbstractStringBuilder" "count" "I") ∈ lw_all := lw_g (lw_at lw_m2 89 rfl) rfl
theorem q394 : (Jvm.Cond.soleField "java/lang/AbstractStringBuilder" "value") ∈ lw_all := lw_g (lw_at lw_m2 91 rfl) rfl
theorem q396 : (Jvm.Cond.soleField "java/lang/AbstractStringBuilder" "coder") ∈ lw_all := lw_g (lw_at lw_m2 93 rfl) rfl
theorem q398 : (Jvm.Cond.soleField "java/lang/AbstractStringBuilder" "maybeLatin1") ∈ lw_all := lw_g (lw_at lw_m2 95 rfl) rfl
theorem q400 : (Jvm.Cond.soleField "java/lang/AbstractStringBuilder" "count") ∈ lw_all := lw_g (lw_at lw_m2 97 rfl) rfl
theorem q665 : (Jvm.Cond.instanceMethod ({ cls := "java/lang/AbstractStringBuilder", name := "append", desc := "(Ljava/lang/String;)Ljava/lang/AbstractStringBuilder;" } : Jvm.MethodName)) ∈ lw_all := lw_g (lw_at lw_m3 122 rfl) rfl
theorem q666 : (Jvm.Cond.code ({ cls := "java/lang/AbstractStringBuilder", name := "append", desc := "(Ljava/lang/String;)Ljava/lang/AbstractStringBuilder;" } : Jvm.MethodName) prog_14_method_22_code (3 : Nat) (Option.some (Jvm.ClassFile.FieldType.object "java/lang/AbstractStringBuilder"))) ∈ lw_all := lw_g (lw_at lw_m3 123 rfl) rfl
theorem q667 : (Jvm.Cond.methodLink "java/lang/AbstractStringBuilder" (204 : Nat) ({ cls := "java/lang/AbstractStringBuilder", name := "appendNull", desc := "()Ljava/lang/AbstractStringBuilder;" } : Jvm.MethodName)) ∈ lw_all := lw_g (lw_at lw_m3 124 rfl) rfl
theorem q668 : (Jvm.Cond.privateMethod ({ cls := "java/lang/AbstractStringBuilder", name := "appendNull", desc := "()Ljava/lang/AbstractStringBuilder;" } : Jvm.MethodName)) ∈ lw_tbl := lw_at lw_m3 125 rfl
theorem q669 : (Jvm.Cond.instanceMethod ({ cls := "java/lang/AbstractStringBuilder", name := "appendNull", desc := "()Ljava/lang/AbstractStringBuilder;" } : Jvm.MethodName)) ∈ lw_all := lw_g (lw_at lw_m3 126 rfl) rfl
theorem q670 : (Jvm.Cond.code ({ cls := "java/lang/AbstractStringBuilder", name := "appendNull", desc := "()Ljava/lang/AbstractStringBuilder;" } : Jvm.MethodName) prog_14_method_26_code (3 : Nat) (Option.some (Jvm.ClassFile.FieldType.object "java/lang/AbstractStringBuilder"))) ∈ lw_all := lw_g (lw_at lw_m3 127 rfl) rfl
theorem q671 : (Jvm.Cond.methodLink "java/lang/AbstractStringBuilder" (100 : Nat) ({ cls := "java/lang/AbstractStringBuilder", name := "ensureCapacityInternal", desc := "(I)V" } : Jvm.MethodName)) ∈ lw_all := lw_g (lw_at lw_m3 128 rfl) rfl
theorem q672 : (Jvm.Cond.privateMethod ({ cls := "java/lang/AbstractStringBuilder", name := "ensureCapacityInternal", desc := "(I)V" } : Jvm.MethodName)) ∈ lw_tbl := lw_at lw_m3 129 rfl
theorem q673 : (Jvm.Cond.instanceMethod ({ cls := "java/lang/AbstractStringBuilder", name := "ensureCapacityInternal", desc := "(I)V" } : Jvm.MethodName)) ∈ lw_all := lw_g (lw_at lw_m3 130 rfl) rfl
theorem q674 : (Jvm.Cond.code ({ cls := "java/lang/AbstractStringBuilder", name := "ensureCapacityInternal", desc := "(I)V" } : Jvm.MethodName) prog_14_method_9_code (3 : Nat) (Option.none : Option Jvm.ClassFile.FieldType)) ∈ lw_all := lw_g (lw_at lw_m3 131 rfl) rfl
theorem q675 : (Jvm.Cond.methodLink "java/lang/AbstractStringBuilder" (104 : Nat) ({ cls := "java/lang/AbstractStringBuilder", name := "newCapacity", desc := "(I)I" } : Jvm.MethodName)) ∈ lw_all := lw_g (lw_at lw_m3 132 rfl) rfl
theorem q676 : (Jvm.Cond.privateMethod ({ cls := "java/lang/AbstractStringBuilder", name := "newCapacity", desc := "(I)I" } : Jvm.MethodName)) ∈ lw_tbl := lw_at lw_m3 133 rfl
theorem q677 : (Jvm.Cond.instanceMethod ({ cls := "java/lang/AbstractStringBuilder", name := "newCapacity", desc := "(I)I" } : Jvm.MethodName)) ∈ lw_all := lw_g (lw_at lw_m3 134 rfl) rfl
theorem q678 : (Jvm.Cond.code ({ cls := "java/lang/AbstractStringBuilder", name := "newCapacity", desc := "(I)I" } : Jvm.MethodName) prog_14_method_10_code (6 : Nat) (Option.some Jvm.ClassFile.FieldType.int)) ∈ lw_all := lw_g (lw_at lw_m3 135 rfl) rfl
theorem q679 : (Jvm.Cond.methodLink "java/lang/AbstractStringBuilder" (114 : Nat) ({ cls := "jdk/internal/util/ArraysSupport", name := "newLength", desc := "(III)I" } : Jvm.MethodName)) ∈ lw_all := lw_g (lw_at lw_m3 136 rfl) rfl
theorem q680 : (Jvm.Cond.constant "java/lang/AbstractStringBuilder" (39 : Nat) (2147483647 : Int32)) ∈ lw_all := lw_g (lw_at lw_m3 137 rfl) rfl
theorem q681 : (Jvm.Cond.methodLink "java/lang/AbstractStringBuilder" (108 : Nat) ({ cls := "java/util/Arrays", name := "copyOf", desc := "([BI)[B" } : Jvm.MethodName)) ∈ lw_all := lw_g (lw_at lw_m3 138 rfl) rfl
theorem q689 : (Jvm.Cond.methodLink "java/lang/AbstractStringBuilder" (83 : Nat) ({ cls := "java/lang/AbstractStringBuilder", name := "isLatin1", desc := "()Z" } : Jvm.MethodName)) ∈ lw_all := lw_g (lw_at lw_m3 146 rfl) rfl
theorem q690 : (Jvm.Cond.instanceMethod ({ cls := "java/lang/AbstractStringBuilder", name := "isLatin1", desc := "()Z" } : Jvm.MethodName)) ∈ lw_all := lw_g (lw_at lw_m3 147 rfl) rfl
theorem q691 : (Jvm.Cond.sameMethod "java/lang/AbstractStringBuilder" "java/lang/AbstractStringBuilder" "isLatin1" "()Z") ∈ lw_all := lw_g (lw_at lw_m3 148 rfl) rfl
theorem q693 : (Jvm.Cond.code ({ cls := "java/lang/AbstractStringBuilder", name := "isLatin1", desc := "()Z" } : Jvm.MethodName) prog_14_method_68_code (1 : Nat) (Option.some Jvm.ClassFile.FieldType.boolean)) ∈ lw_all := lw_g (lw_at lw_m3 150 rfl) rfl
theorem q694 : (Jvm.Cond.methodLink "java/lang/AbstractStringBuilder" (226 : Nat) ({ cls := "java/lang/StringUTF16", name := "putCharsAt", desc := "([BICCCC)I" } : Jvm.MethodName)) ∈ lw_all := lw_g (lw_at lw_m3 151 rfl) rfl
theorem q720 : (Jvm.Cond.methodLink "java/lang/AbstractStringBuilder" (32 : Nat) ({ cls := "java/lang/String", name := "length", desc := "()I" } : Jvm.MethodName)) ∈ lw_all := lw_g (lw_at lw_m3 177 rfl) rfl
theorem q729 : (Jvm.Cond.methodLink "java/lang/AbstractStringBuilder" (208 : Nat) ({ cls := "java/lang/AbstractStringBuilder", name := "putStringAt", desc := "(ILjava/lang/String;)V" } : Jvm.MethodName)) ∈ lw_all := lw_g (lw_at lw_m3 186 rfl) rfl
theorem q730 : (Jvm.Cond.privateMethod ({ cls := "java/lang/AbstractStringBuilder", name := "putStringAt", desc := "(ILjava/lang/String;)V" } : Jvm.MethodName)) ∈ lw_tbl := lw_at lw_m3 187 rfl
theorem q731 : (Jvm.Cond.instanceMethod ({ cls := "java/lang/AbstractStringBuilder", name := "putStringAt", desc := "(ILjava/lang/String;)V" } : Jvm.MethodName)) ∈ lw_all := lw_g (lw_at lw_m3 188 rfl) rfl
theorem q732 : (Jvm.Cond.code ({ cls := "java/lang/AbstractStringBuilder", name := "putStringAt", desc := "(ILjava/lang/String;)V" } : Jvm.MethodName) prog_14_method_73_code (3 : Nat) (Option.none : Option Jvm.ClassFile.FieldType)) ∈ lw_all := lw_g (lw_at lw_m3 189 rfl) rfl
theorem q733 : (Jvm.Cond.methodLink "java/lang/AbstractStringBuilder" (397 : Nat) ({ cls := "java/lang/AbstractStringBuilder", name := "inflateIfNeededFor", desc := "(Ljava/lang/String;)V" } : Jvm.MethodName)) ∈ lw_all := lw_g (lw_at lw_m3 190 rfl) rfl
theorem q734 : (Jvm.Cond.privateMethod ({ cls := "java/lang/AbstractStringBuilder", name := "inflateIfNeededFor", desc := "(Ljava/lang/String;)V" } : Jvm.MethodName)) ∈ lw_tbl := lw_at lw_m3 191 rfl
theorem q735 : (Jvm.Cond.instanceMethod ({ cls := "java/lang/AbstractStringBuilder", name := "inflateIfNeededFor", desc := "(Ljava/lang/String;)V" } : Jvm.MethodName)) ∈ lw_all := lw_g (lw_at lw_m3 192 rfl) rfl
theorem q736 : (Jvm.Cond.code ({ cls := "java/lang/AbstractStringBuilder", name := "inflateIfNeededFor", desc := "(Ljava/lang/String;)V" } : Jvm.MethodName) prog_14_method_71_code (2 : Nat) (Option.none : Option Jvm.ClassFile.FieldType)) ∈ lw_all := lw_g (lw_at lw_m3 193 rfl) rfl
theorem q737 : (Jvm.Cond.methodLink "java/lang/AbstractStringBuilder" (40 : Nat) ({ cls := "java/lang/String", name := "coder", desc := "()B" } : Jvm.MethodName)) ∈ lw_all := lw_g (lw_at lw_m3 194 rfl) rfl
theorem q738 : (Jvm.Cond.methodLink "java/lang/AbstractStringBuilder" (195 : Nat) ({ cls := "java/lang/AbstractStringBuilder", name := "inflate", desc := "()V" } : Jvm.MethodName)) ∈ lw_all := lw_g (lw_at lw_m3 195 rfl) rfl
theorem q739 : (Jvm.Cond.privateMethod ({ cls := "java/lang/AbstractStringBuilder", name := "inflate", desc := "()V" } : Jvm.MethodName)) ∈ lw_tbl := lw_at lw_m3 196 rfl
theorem q740 : (Jvm.Cond.instanceMethod ({ cls := "java/lang/AbstractStringBuilder", name := "inflate", desc := "()V" } : Jvm.MethodName)) ∈ lw_all := lw_g (lw_at lw_m3 197 rfl) rfl
theorem q741 : (Jvm.Cond.code ({ cls := "java/lang/AbstractStringBuilder", name := "inflate", desc := "()V" } : Jvm.MethodName) prog_14_method_11_code (2 : Nat) (Option.none : Option Jvm.ClassFile.FieldType)) ∈ lw_all := lw_g (lw_at lw_m3 198 rfl) rfl
theorem q742 : (Jvm.Cond.methodLink "java/lang/AbstractStringBuilder" (125 : Nat) ({ cls := "java/lang/StringLatin1", name := "inflate", desc := "([BI[BII)V" } : Jvm.MethodName)) ∈ lw_all := lw_g (lw_at lw_m3 199 rfl) rfl
theorem q757 : (Jvm.Cond.methodLink "java/lang/AbstractStringBuilder" (399 : Nat) ({ cls := "java/lang/String", name := "getBytes", desc := "([BIB)V" } : Jvm.MethodName)) ∈ lw_all := lw_g (lw_at lw_m3 214 rfl) rfl
theorem q778 : (Jvm.Cond.instanceMethod ({ cls := "java/lang/AbstractStringBuilder", name := "getValue", desc := "()[B" } : Jvm.MethodName)) ∈ lw_all := lw_g (lw_at lw_m3 235 rfl) rfl
theorem q779 : (Jvm.Cond.sameMethod "java/lang/AbstractStringBuilder" "java/lang/AbstractStringBuilder" "getValue" "()[B") ∈ lw_all := lw_g (lw_at lw_m3 236 rfl) rfl
theorem q781 : (Jvm.Cond.code ({ cls := "java/lang/AbstractStringBuilder", name := "getValue", desc := "()[B" } : Jvm.MethodName) prog_14_method_64_code (1 : Nat) (Option.some (Jvm.ClassFile.FieldType.array Jvm.ClassFile.FieldType.byte))) ∈ lw_all := lw_g (lw_at lw_m3 238 rfl) rfl
theorem q783 : (Jvm.Cond.instanceMethod ({ cls := "java/lang/AbstractStringBuilder", name := "length", desc := "()I" } : Jvm.MethodName)) ∈ lw_all := lw_g (lw_at lw_m4 0 rfl) rfl
theorem q784 : (Jvm.Cond.sameMethod "java/lang/AbstractStringBuilder" "java/lang/AbstractStringBuilder" "length" "()I") ∈ lw_all := lw_g (lw_at lw_m4 1 rfl) rfl
theorem q789 : (Jvm.Cond.code ({ cls := "java/lang/AbstractStringBuilder", name := "length", desc := "()I" } : Jvm.MethodName) prog_14_method_6_code (1 : Nat) (Option.some Jvm.ClassFile.FieldType.int)) ∈ lw_all := lw_g (lw_at lw_m4 6 rfl) rfl
theorem q1435 : (Jvm.Cond.instanceMethod ({ cls := "java/lang/AbstractStringBuilder", name := "append", desc := "(C)Ljava/lang/AbstractStringBuilder;" } : Jvm.MethodName)) ∈ lw_all := lw_g (lw_at lw_m6 172 rfl) rfl
theorem q1436 : (Jvm.Cond.code ({ cls := "java/lang/AbstractStringBuilder", name := "append", desc := "(C)Ljava/lang/AbstractStringBuilder;" } : Jvm.MethodName) prog_14_method_31_code (2 : Nat) (Option.some (Jvm.ClassFile.FieldType.object "java/lang/AbstractStringBuilder"))) ∈ lw_all := lw_g (lw_at lw_m6 173 rfl) rfl
theorem q1437 : (Jvm.Cond.methodLink "java/lang/AbstractStringBuilder" (191 : Nat) ({ cls := "java/lang/StringLatin1", name := "canEncode", desc := "(C)Z" } : Jvm.MethodName)) ∈ lw_all := lw_g (lw_at lw_m6 174 rfl) rfl
theorem q1440 : (Jvm.Cond.methodLink "java/lang/AbstractStringBuilder" (197 : Nat) ({ cls := "java/lang/StringUTF16", name := "putCharSB", desc := "([BII)V" } : Jvm.MethodName)) ∈ lw_all := lw_g (lw_at lw_m6 177 rfl) rfl
theorem q1538 : (Jvm.Cond.instanceMethod ({ cls := "java/lang/AbstractStringBuilder", name := "charAt", desc := "(I)C" } : Jvm.MethodName)) ∈ lw_all := lw_g (lw_at lw_m7 35 rfl) rfl
theorem q1539 : (Jvm.Cond.code ({ cls := "java/lang/AbstractStringBuilder", name := "charAt", desc := "(I)C" } : Jvm.MethodName) prog_14_method_14_code (5 : Nat) (Option.some Jvm.ClassFile.FieldType.char)) ∈ lw_all := lw_g (lw_at lw_m7 36 rfl) rfl
theorem q1540 : (Jvm.Cond.methodLink "java/lang/AbstractStringBuilder" (138 : Nat) ({ cls := "java/lang/Math", name := "min", desc := "(II)I" } : Jvm.MethodName)) ∈ lw_all := lw_g (lw_at lw_m7 37 rfl) rfl
theorem q1541 : (Jvm.Cond.methodLink "java/lang/AbstractStringBuilder" (144 : Nat) ({ cls := "java/lang/String", name := "checkIndex", desc := "(II)V" } : Jvm.MethodName)) ∈ lw_all := lw_g (lw_at lw_m7 38 rfl) rfl
theorem q1542 : (Jvm.Cond.methodLink "java/lang/AbstractStringBuilder" (148 : Nat) ({ cls := "java/lang/StringUTF16", name := "getChar", desc := "([BI)C" } : Jvm.MethodName)) ∈ lw_all := lw_g (lw_at lw_m7 39 rfl) rfl
theorem q1706 : (Jvm.Cond.instanceMethod ({ cls := "java/lang/AbstractStringBuilder", name := "setLength", desc := "(I)V" } : Jvm.MethodName)) ∈ lw_all := lw_g (lw_at lw_m7 203 rfl) rfl
theorem q1707 : (Jvm.Cond.code ({ cls := "java/lang/AbstractStringBuilder", name := "setLength", desc := "(I)V" } : Jvm.MethodName) prog_14_method_13_code (2 : Nat) (Option.none : Option Jvm.ClassFile.FieldType)) ∈ lw_all := lw_g (lw_at lw_m7 204 rfl) rfl
theorem q1708 : (Jvm.Cond.methodLink "java/lang/AbstractStringBuilder" (133 : Nat) ({ cls := "java/lang/StringLatin1", name := "fillNull", desc := "([BII)V" } : Jvm.MethodName)) ∈ lw_all := lw_g (lw_at lw_m7 205 rfl) rfl
theorem q1717 : (Jvm.Cond.methodLink "java/lang/AbstractStringBuilder" (137 : Nat) ({ cls := "java/lang/StringUTF16", name := "fillNull", desc := "([BII)V" } : Jvm.MethodName)) ∈ lw_all := lw_g (lw_at lw_m7 214 rfl) rfl
theorem q1738 : (Jvm.Cond.instanceMethod ({ cls := "java/lang/AbstractStringBuilder", name := "append", desc := "(I)Ljava/lang/AbstractStringBuilder;" } : Jvm.MethodName)) ∈ lw_all := lw_g (lw_at lw_m7 235 rfl) rfl
theorem q1739 : (Jvm.Cond.code ({ cls := "java/lang/AbstractStringBuilder", name := "append", desc := "(I)Ljava/lang/AbstractStringBuilder;" } : Jvm.MethodName) prog_14_method_32_code (4 : Nat) (Option.some (Jvm.ClassFile.FieldType.object "java/lang/AbstractStringBuilder"))) ∈ lw_all := lw_g (lw_at lw_m7 236 rfl) rfl
theorem q1740 : (Jvm.Cond.methodLink "java/lang/AbstractStringBuilder" (245 : Nat) ({ cls := "java/lang/Integer", name := "stringSize", desc := "(I)I" } : Jvm.MethodName)) ∈ lw_all := lw_g (lw_at lw_m7 237 rfl) rfl
theorem q1743 : (Jvm.Cond.methodLink "java/lang/AbstractStringBuilder" (248 : Nat) ({ cls := "java/lang/Integer", name := "getChars", desc := "(II[B)I" } : Jvm.MethodName)) ∈ lw_all := lw_g (lw_at lw_m8 0 rfl) rfl
theorem q1750 : (Jvm.Cond.methodLink "java/lang/AbstractStringBuilder" (251 : Nat) ({ cls := "java/lang/StringUTF16", name := "getChars", desc := "(III[B)I" } : Jvm.MethodName)) ∈ lw_all := lw_g (lw_at lw_m8 7 rfl) rfl
theorem q2234 : (Jvm.Cond.sameMethod "java/lang/AbstractStringBuilder" "java/lang/AbstractStringBuilder" "append" "(Ljava/lang/String;)Ljava/lang/AbstractStringBuilder;") ∈ lw_all := lw_g (lw_at lw_m10 11 rfl) rfl
theorem q2235 : (Jvm.Cond.sameMethod "java/lang/AbstractStringBuilder" "java/lang/AbstractStringBuilder" "appendNull" "()Ljava/lang/AbstractStringBuilder;") ∈ lw_all := lw_g (lw_at lw_m10 12 rfl) rfl
theorem q2236 : (Jvm.Cond.sameMethod "java/lang/AbstractStringBuilder" "java/lang/AbstractStringBuilder" "ensureCapacityInternal" "(I)V") ∈ lw_all := lw_g (lw_at lw_m10 13 rfl) rfl
theorem q2237 : (Jvm.Cond.sameMethod "java/lang/AbstractStringBuilder" "java/lang/AbstractStringBuilder" "newCapacity" "(I)I") ∈ lw_all := lw_g (lw_at lw_m10 14 rfl) rfl
theorem q2238 : (Jvm.Cond.sameMethod "java/lang/AbstractStringBuilder" "java/lang/AbstractStringBuilder" "putStringAt" "(ILjava/lang/String;)V") ∈ lw_all := lw_g (lw_at lw_m10 15 rfl) rfl
theorem q2239 : (Jvm.Cond.sameMethod "java/lang/AbstractStringBuilder" "java/lang/AbstractStringBuilder" "inflateIfNeededFor" "(Ljava/lang/String;)V") ∈ lw_all := lw_g (lw_at lw_m10 16 rfl) rfl
theorem q2240 : (Jvm.Cond.sameMethod "java/lang/AbstractStringBuilder" "java/lang/AbstractStringBuilder" "inflate" "()V") ∈ lw_all := lw_g (lw_at lw_m10 17 rfl) rfl
theorem q2246 : (Jvm.Cond.sameMethod "java/lang/AbstractStringBuilder" "java/lang/AbstractStringBuilder" "append" "(C)Ljava/lang/AbstractStringBuilder;") ∈ lw_all := lw_g (lw_at lw_m10 23 rfl) rfl
theorem q2247 : (Jvm.Cond.sameMethod "java/lang/AbstractStringBuilder" "java/lang/AbstractStringBuilder" "charAt" "(I)C") ∈ lw_all := lw_g (lw_at lw_m10 24 rfl) rfl
theorem q2249 : (Jvm.Cond.sameMethod "java/lang/AbstractStringBuilder" "java/lang/AbstractStringBuilder" "setLength" "(I)V") ∈ lw_all := lw_g (lw_at lw_m10 26 rfl) rfl
theorem q2250 : (Jvm.Cond.sameMethod "java/lang/AbstractStringBuilder" "java/lang/AbstractStringBuilder" "append" "(I)Ljava/lang/AbstractStringBuilder;") ∈ lw_all := lw_g (lw_at lw_m10 27 rfl) rfl

/-! java/lang/StringBuilder -/
set_option maxRecDepth 100000
def RJ11 : String := "java/lang/StringBuilder"
def TJ11 : u_T := fun k => match k with
  | 0 => ("java/lang/AbstractStringBuilder", "value", "[B", false)
  | 1 => ("java/lang/AbstractStringBuilder", "coder", "B", false)
  | 2 => ("java/lang/AbstractStringBuilder", "maybeLatin1", "Z", false)
  | _ => ("java/lang/AbstractStringBuilder", "count", "I", false)
def tyJ11 : Nat → FieldType := fun k => match k with
  | 0 => .array .byte
  | 1 => .byte
  | 2 => .boolean
  | _ => .int
abbrev wsJ110 : List Cond := u_ws RJ11 TJ11 4
theorem nmJ11 : ∀ a, a < 4 → ∀ b, b < 4 → a ≠ b → (TJ11 a).2.1 ≠ (TJ11 b).2.1 := by decide +kernel
theorem tyJ11_ok : ∀ k, k < 4 → parseFieldDescriptor (TJ11 k).2.2.1 = some (tyJ11 k) := by decide +kernel
abbrev cJ11_init : ByteArray := prog_27_method_1_code
def yJ11_init : MethodName := ⟨RJ11, "<init>", "()V"⟩
def dkwJ11_init_0 : List UInt8 := [42, 16, 16, 183, 0, 1, 177]
abbrev dktJ11_init_0 : List UInt8 := dkwJ11_init_0 ++ []
theorem dksJ11_init_0 : cJ11_init.data.toList.drop 0 = dktJ11_init_0 := by decide +kernel
theorem dJ11_init_0 : decode cJ11_init 0 = .ok (.aload_n 0, 1) := dk_42 (dk_at dksJ11_init_0 0 rfl rfl)
theorem dJ11_init_1 : decode cJ11_init 1 = .ok (.bipush 16, 2) := dk_16 16 (dk_at dksJ11_init_0 1 rfl rfl)
theorem dJ11_init_3 : decode cJ11_init 3 = .ok (.invokespecial 1, 3) := dk_183 0 1 (dk_at dksJ11_init_0 3 rfl rfl)
theorem dJ11_init_6 : decode cJ11_init 6 = .ok (.return_, 1) := dk_177 (dk_at dksJ11_init_0 6 rfl rfl)
abbrev cJ11_append : ByteArray := prog_27_method_7_code
def yJ11_append : MethodName := ⟨RJ11, "append", "(Ljava/lang/String;)Ljava/lang/StringBuilder;"⟩
def dkwJ11_append_0 : List UInt8 := [42, 43, 183, 0, 29, 87, 42, 176]
abbrev dktJ11_append_0 : List UInt8 := dkwJ11_append_0 ++ []
theorem dksJ11_append_0 : cJ11_append.data.toList.drop 0 = dktJ11_append_0 := by decide +kernel
theorem dJ11_append_0 : decode cJ11_append 0 = .ok (.aload_n 0, 1) := dk_42 (dk_at dksJ11_append_0 0 rfl rfl)
theorem dJ11_append_1 : decode cJ11_append 1 = .ok (.aload_n 1, 1) := dk_43 (dk_at dksJ11_append_0 1 rfl rfl)
theorem dJ11_append_2 : decode cJ11_append 2 = .ok (.invokespecial 29, 3) := dk_183 0 29 (dk_at dksJ11_append_0 2 rfl rfl)
theorem dJ11_append_5 : decode cJ11_append 5 = .ok (.pop, 1) := dk_87 (dk_at dksJ11_append_0 5 rfl rfl)
theorem dJ11_append_6 : decode cJ11_append 6 = .ok (.aload_n 0, 1) := dk_42 (dk_at dksJ11_append_0 6 rfl rfl)
theorem dJ11_append_7 : decode cJ11_append 7 = .ok (.areturn, 1) := dk_176 (dk_at dksJ11_append_0 7 rfl rfl)
abbrev cJ11_toString : ByteArray := prog_27_method_42_code
def yJ11_toString : MethodName := ⟨RJ11, "toString", "()Ljava/lang/String;"⟩
def dkwJ11_toString_0 : List UInt8 := [187, 0, 18, 89, 42, 183, 0, 137, 176]
abbrev dktJ11_toString_0 : List UInt8 := dkwJ11_toString_0 ++ []
theorem dksJ11_toString_0 : cJ11_toString.data.toList.drop 0 = dktJ11_toString_0 := by decide +kernel
theorem dJ11_toString_0 : decode cJ11_toString 0 = .ok (.new 18, 3) := dk_187 0 18 (dk_at dksJ11_toString_0 0 rfl rfl)
theorem dJ11_toString_3 : decode cJ11_toString 3 = .ok (.dup, 1) := dk_89 (dk_at dksJ11_toString_0 3 rfl rfl)
theorem dJ11_toString_4 : decode cJ11_toString 4 = .ok (.aload_n 0, 1) := dk_42 (dk_at dksJ11_toString_0 4 rfl rfl)
theorem dJ11_toString_5 : decode cJ11_toString 5 = .ok (.invokespecial 137, 3) := dk_183 0 137 (dk_at dksJ11_toString_0 5 rfl rfl)
theorem dJ11_toString_8 : decode cJ11_toString 8 = .ok (.areturn, 1) := dk_176 (dk_at dksJ11_toString_0 8 rfl rfl)
abbrev cJ11_length : ByteArray := prog_27_method_93_code
def yJ11_length : MethodName := ⟨RJ11, "length", "()I"⟩
theorem dJ11_length_0 : decode cJ11_length 0 = .ok (.aload_n 0, 1) := by decide +kernel
theorem dJ11_length_1 : decode cJ11_length 1 = .ok (.invokespecial 343, 3) := by decide +kernel
theorem dJ11_length_4 : decode cJ11_length 4 = .ok (.ireturn, 1) := by decide +kernel
abbrev cJ11_append_2 : ByteArray := prog_27_method_14_code
def yJ11_append_2 : MethodName := ⟨RJ11, "append", "(C)Ljava/lang/StringBuilder;"⟩
def dkwJ11_append_2_0 : List UInt8 := [42, 27, 183, 0, 50, 87, 42, 176]
abbrev dktJ11_append_2_0 : List UInt8 := dkwJ11_append_2_0 ++ []
theorem dksJ11_append_2_0 : cJ11_append_2.data.toList.drop 0 = dktJ11_append_2_0 := by decide +kernel
theorem dJ11_append_2_0 : decode cJ11_append_2 0 = .ok (.aload_n 0, 1) := dk_42 (dk_at dksJ11_append_2_0 0 rfl rfl)
theorem dJ11_append_2_1 : decode cJ11_append_2 1 = .ok (.iload_n 1, 1) := dk_27 (dk_at dksJ11_append_2_0 1 rfl rfl)
theorem dJ11_append_2_2 : decode cJ11_append_2 2 = .ok (.invokespecial 50, 3) := dk_183 0 50 (dk_at dksJ11_append_2_0 2 rfl rfl)
theorem dJ11_append_2_5 : decode cJ11_append_2 5 = .ok (.pop, 1) := dk_87 (dk_at dksJ11_append_2_0 5 rfl rfl)
theorem dJ11_append_2_6 : decode cJ11_append_2 6 = .ok (.aload_n 0, 1) := dk_42 (dk_at dksJ11_append_2_0 6 rfl rfl)
theorem dJ11_append_2_7 : decode cJ11_append_2 7 = .ok (.areturn, 1) := dk_176 (dk_at dksJ11_append_2_0 7 rfl rfl)
abbrev cJ11_charAt : ByteArray := prog_27_method_88_code
def yJ11_charAt : MethodName := ⟨RJ11, "charAt", "(I)C"⟩
def dkwJ11_charAt_0 : List UInt8 := [42, 27, 183, 1, 73, 172]
abbrev dktJ11_charAt_0 : List UInt8 := dkwJ11_charAt_0 ++ []
theorem dksJ11_charAt_0 : cJ11_charAt.data.toList.drop 0 = dktJ11_charAt_0 := by decide +kernel
theorem dJ11_charAt_0 : decode cJ11_charAt 0 = .ok (.aload_n 0, 1) := dk_42 (dk_at dksJ11_charAt_0 0 rfl rfl)
theorem dJ11_charAt_1 : decode cJ11_charAt 1 = .ok (.iload_n 1, 1) := dk_27 (dk_at dksJ11_charAt_0 1 rfl rfl)
theorem dJ11_charAt_2 : decode cJ11_charAt 2 = .ok (.invokespecial 329, 3) := dk_183 1 73 (dk_at dksJ11_charAt_0 2 rfl rfl)
theorem dJ11_charAt_5 : decode cJ11_charAt 5 = .ok (.ireturn, 1) := dk_172 (dk_at dksJ11_charAt_0 5 rfl rfl)
abbrev cJ11_setLength : ByteArray := prog_27_method_89_code
def yJ11_setLength : MethodName := ⟨RJ11, "setLength", "(I)V"⟩
def dkwJ11_setLength_0 : List UInt8 := [42, 27, 183, 1, 77, 177]
abbrev dktJ11_setLength_0 : List UInt8 := dkwJ11_setLength_0 ++ []
theorem dksJ11_setLength_0 : cJ11_setLength.data.toList.drop 0 = dktJ11_setLength_0 := by decide +kernel
theorem dJ11_setLength_0 : decode cJ11_setLength 0 = .ok (.aload_n 0, 1) := dk_42 (dk_at dksJ11_setLength_0 0 rfl rfl)
theorem dJ11_setLength_1 : decode cJ11_setLength 1 = .ok (.iload_n 1, 1) := dk_27 (dk_at dksJ11_setLength_0 1 rfl rfl)
theorem dJ11_setLength_2 : decode cJ11_setLength 2 = .ok (.invokespecial 333, 3) := dk_183 1 77 (dk_at dksJ11_setLength_0 2 rfl rfl)
theorem dJ11_setLength_5 : decode cJ11_setLength 5 = .ok (.return_, 1) := dk_177 (dk_at dksJ11_setLength_0 5 rfl rfl)
abbrev cJ11_append_3 : ByteArray := prog_27_method_15_code
def yJ11_append_3 : MethodName := ⟨RJ11, "append", "(I)Ljava/lang/StringBuilder;"⟩
def dkwJ11_append_3_0 : List UInt8 := [42, 27, 183, 0, 53, 87, 42, 176]
abbrev dktJ11_append_3_0 : List UInt8 := dkwJ11_append_3_0 ++ []
theorem dksJ11_append_3_0 : cJ11_append_3.data.toList.drop 0 = dktJ11_append_3_0 := by decide +kernel
theorem dJ11_append_3_0 : decode cJ11_append_3 0 = .ok (.aload_n 0, 1) := dk_42 (dk_at dksJ11_append_3_0 0 rfl rfl)
theorem dJ11_append_3_1 : decode cJ11_append_3 1 = .ok (.iload_n 1, 1) := dk_27 (dk_at dksJ11_append_3_0 1 rfl rfl)
theorem dJ11_append_3_2 : decode cJ11_append_3 2 = .ok (.invokespecial 53, 3) := dk_183 0 53 (dk_at dksJ11_append_3_0 2 rfl rfl)
theorem dJ11_append_3_5 : decode cJ11_append_3 5 = .ok (.pop, 1) := dk_87 (dk_at dksJ11_append_3_0 5 rfl rfl)
theorem dJ11_append_3_6 : decode cJ11_append_3 6 = .ok (.aload_n 0, 1) := dk_42 (dk_at dksJ11_append_3_0 6 rfl rfl)
theorem dJ11_append_3_7 : decode cJ11_append_3 7 = .ok (.areturn, 1) := dk_176 (dk_at dksJ11_append_3_0 7 rfl rfl)
theorem q79 : (Jvm.Cond.initialized "java/lang/StringBuilder") ∈ lw_all := lw_g (lw_at lw_m1 16 rfl) rfl
theorem q271 : (Jvm.Cond.selects "java/lang/StringBuilder" ({ cls := "java/lang/Object", name := "getClass", desc := "()Ljava/lang/Class;" } : Jvm.MethodName) ({ cls := "java/lang/Object", name := "getClass", desc := "()Ljava/lang/Class;" } : Jvm.MethodName)) ∈ lw_all := lw_g (lw_at lw_m1 208 rfl) rfl
theorem q371 : (Jvm.Cond.instantiable "java/lang/StringBuilder" (4 : Nat)) ∈ lw_all := lw_g (lw_at lw_m2 68 rfl) rfl
theorem q373 : (Jvm.Cond.instanceMethod ({ cls := "java/lang/StringBuilder", name := "<init>", desc := "()V" } : Jvm.MethodName)) ∈ lw_all := lw_g (lw_at lw_m2 70 rfl) rfl
theorem q374 : (Jvm.Cond.code ({ cls := "java/lang/StringBuilder", name := "<init>", desc := "()V" } : Jvm.MethodName) prog_27_method_1_code (1 : Nat) (Option.none : Option Jvm.ClassFile.FieldType)) ∈ lw_all := lw_g (lw_at lw_m2 71 rfl) rfl
theorem q375 : (Jvm.Cond.methodLink "java/lang/StringBuilder" (1 : Nat) ({ cls := "java/lang/AbstractStringBuilder", name := "<init>", desc := "(I)V" } : Jvm.MethodName)) ∈ lw_all := lw_g (lw_at lw_m2 72 rfl) rfl
theorem q393 : (Jvm.Cond.lays "java/lang/StringBuilder" "java/lang/AbstractStringBuilder" "value" "[B") ∈ lw_all := lw_g (lw_at lw_m2 90 rfl) rfl
theorem q395 : (Jvm.Cond.lays "java/lang/StringBuilder" "java/lang/AbstractStringBuilder" "coder" "B") ∈ lw_all := lw_g (lw_at lw_m2 92 rfl) rfl
theorem q397 : (Jvm.Cond.lays "java/lang/StringBuilder" "java/lang/AbstractStringBuilder" "maybeLatin1" "Z") ∈ lw_all := lw_g (lw_at lw_m2 94 rfl) rfl
theorem q399 : (Jvm.Cond.lays "java/lang/StringBuilder" "java/lang/AbstractStringBuilder" "count" "I") ∈ lw_all := lw_g (lw_at lw_m2 96 rfl) rfl
theorem q401 : (Jvm.Cond.superclass "java/lang/StringBuilder" "java/lang/AbstractStringBuilder") ∈ lw_all := lw_g (lw_at lw_m2 98 rfl) rfl
theorem q661 : (Jvm.Cond.instanceMethod ({ cls := "java/lang/StringBuilder", name := "append", desc := "(Ljava/lang/String;)Ljava/lang/StringBuilder;" } : Jvm.MethodName)) ∈ lw_all := lw_g (lw_at lw_m3 118 rfl) rfl
theorem q662 : (Jvm.Cond.selects "java/lang/StringBuilder" ({ cls := "java/lang/StringBuilder", name := "append", desc := "(Ljava/lang/String;)Ljava/lang/StringBuilder;" } : Jvm.MethodName) ({ cls := "java/lang/StringBuilder", name := "append", desc := "(Ljava/lang/String;)Ljava/lang/StringBuilder;" } : Jvm.MethodName)) ∈ lw_all := lw_g (lw_at lw_m3 119 rfl) rfl
theorem q663 : (Jvm.Cond.code ({ cls := "java/lang/StringBuilder", name := "append", desc := "(Ljava/lang/String;)Ljava/lang/StringBuilder;" } : Jvm.MethodName) prog_27_method_7_code (2 : Nat) (Option.some (Jvm.ClassFile.FieldType.object "java/lang/StringBuilder"))) ∈ lw_all := lw_g (lw_at lw_m3 120 rfl) rfl
theorem q664 : (Jvm.Cond.methodLink "java/lang/StringBuilder" (29 : Nat) ({ cls := "java/lang/AbstractStringBuilder", name := "append", desc := "(Ljava/lang/String;)Ljava/lang/AbstractStringBuilder;" } : Jvm.MethodName)) ∈ lw_all := lw_g (lw_at lw_m3 121 rfl) rfl
theorem q692 : (Jvm.Cond.selects "java/lang/StringBuilder" ({ cls := "java/lang/AbstractStringBuilder", name := "isLatin1", desc := "()Z" } : Jvm.MethodName) ({ cls := "java/lang/AbstractStringBuilder", name := "isLatin1", desc := "()Z" } : Jvm.MethodName)) ∈ lw_all := lw_g (lw_at lw_m3 149 rfl) rfl
theorem q765 : (Jvm.Cond.instanceMethod ({ cls := "java/lang/StringBuilder", name := "toString", desc := "()Ljava/lang/String;" } : Jvm.MethodName)) ∈ lw_all := lw_g (lw_at lw_m3 222 rfl) rfl
theorem q766 : (Jvm.Cond.selects "java/lang/StringBuilder" ({ cls := "java/lang/StringBuilder", name := "toString", desc := "()Ljava/lang/String;" } : Jvm.MethodName) ({ cls := "java/lang/StringBuilder", name := "toString", desc := "()Ljava/lang/String;" } : Jvm.MethodName)) ∈ lw_all := lw_g (lw_at lw_m3 223 rfl) rfl
theorem q767 : (Jvm.Cond.code ({ cls := "java/lang/StringBuilder", name := "toString", desc := "()Ljava/lang/String;" } : Jvm.MethodName) prog_27_method_42_code (1 : Nat) (Option.some (Jvm.ClassFile.FieldType.object "java/lang/String"))) ∈ lw_all := lw_g (lw_at lw_m3 224 rfl) rfl
theorem q768 : (Jvm.Cond.classLink "java/lang/StringBuilder" (18 : Nat) "java/lang/String") ∈ lw_all := lw_g (lw_at lw_m3 225 rfl) rfl
theorem q770 : (Jvm.Cond.methodLink "java/lang/StringBuilder" (137 : Nat) ({ cls := "java/lang/String", name := "<init>", desc := "(Ljava/lang/StringBuilder;)V" } : Jvm.MethodName)) ∈ lw_all := lw_g (lw_at lw_m3 227 rfl) rfl
theorem q780 : (Jvm.Cond.selects "java/lang/StringBuilder" ({ cls := "java/lang/AbstractStringBuilder", name := "getValue", desc := "()[B" } : Jvm.MethodName) ({ cls := "java/lang/AbstractStringBuilder", name := "getValue", desc := "()[B" } : Jvm.MethodName)) ∈ lw_all := lw_g (lw_at lw_m3 237 rfl) rfl
theorem q785 : (Jvm.Cond.selects "java/lang/StringBuilder" ({ cls := "java/lang/AbstractStringBuilder", name := "length", desc := "()I" } : Jvm.MethodName) ({ cls := "java/lang/StringBuilder", name := "length", desc := "()I" } : Jvm.MethodName)) ∈ lw_all := lw_g (lw_at lw_m4 2 rfl) rfl
theorem q786 : (Jvm.Cond.instanceMethod ({ cls := "java/lang/StringBuilder", name := "length", desc := "()I" } : Jvm.MethodName)) ∈ lw_all := lw_g (lw_at lw_m4 3 rfl) rfl
theorem q787 : (Jvm.Cond.code ({ cls := "java/lang/StringBuilder", name := "length", desc := "()I" } : Jvm.MethodName) prog_27_method_93_code (1 : Nat) (Option.some Jvm.ClassFile.FieldType.int)) ∈ lw_all := lw_g (lw_at lw_m4 4 rfl) rfl
theorem q788 : (Jvm.Cond.methodLink "java/lang/StringBuilder" (343 : Nat) ({ cls := "java/lang/AbstractStringBuilder", name := "length", desc := "()I" } : Jvm.MethodName)) ∈ lw_all := lw_g (lw_at lw_m4 5 rfl) rfl
theorem q1431 : (Jvm.Cond.instanceMethod ({ cls := "java/lang/StringBuilder", name := "append", desc := "(C)Ljava/lang/StringBuilder;" } : Jvm.MethodName)) ∈ lw_all := lw_g (lw_at lw_m6 168 rfl) rfl
theorem q1432 : (Jvm.Cond.selects "java/lang/StringBuilder" ({ cls := "java/lang/StringBuilder", name := "append", desc := "(C)Ljava/lang/StringBuilder;" } : Jvm.MethodName) ({ cls := "java/lang/StringBuilder", name := "append", desc := "(C)Ljava/lang/StringBuilder;" } : Jvm.MethodName)) ∈ lw_all := lw_g (lw_at lw_m6 169 rfl) rfl
theorem q1433 : (Jvm.Cond.code ({ cls := "java/lang/StringBuilder", name := "append", desc := "(C)Ljava/lang/StringBuilder;" } : Jvm.MethodName) prog_27_method_14_code (2 : Nat) (Option.some (Jvm.ClassFile.FieldType.object "java/lang/StringBuilder"))) ∈ lw_all := lw_g (lw_at lw_m6 170 rfl) rfl
theorem q1434 : (Jvm.Cond.methodLink "java/lang/StringBuilder" (50 : Nat) ({ cls := "java/lang/AbstractStringBuilder", name := "append", desc := "(C)Ljava/lang/AbstractStringBuilder;" } : Jvm.MethodName)) ∈ lw_all := lw_g (lw_at lw_m6 171 rfl) rfl
theorem q1508 : (Jvm.Cond.castable "java/lang/StringBuilder" "java/lang/CharSequence") ∈ lw_tbl := lw_at lw_m7 5 rfl
theorem q1509 : (Jvm.Cond.selects "java/lang/StringBuilder" ({ cls := "java/lang/CharSequence", name := "length", desc := "()I" } : Jvm.MethodName) ({ cls := "java/lang/StringBuilder", name := "length", desc := "()I" } : Jvm.MethodName)) ∈ lw_all := lw_g (lw_at lw_m7 6 rfl) rfl
theorem q1510 : (Jvm.Cond.unhidden "java/lang/StringBuilder" "length" "()I") ∈ lw_tbl := lw_at lw_m7 7 rfl
theorem q1511 : (Jvm.Cond.publicMethod ({ cls := "java/lang/StringBuilder", name := "length", desc := "()I" } : Jvm.MethodName)) ∈ lw_tbl := lw_at lw_m7 8 rfl
theorem q1532 : (Jvm.Cond.selects "java/lang/StringBuilder" ({ cls := "java/lang/CharSequence", name := "charAt", desc := "(I)C" } : Jvm.MethodName) ({ cls := "java/lang/StringBuilder", name := "charAt", desc := "(I)C" } : Jvm.MethodName)) ∈ lw_all := lw_g (lw_at lw_m7 29 rfl) rfl
theorem q1533 : (Jvm.Cond.unhidden "java/lang/StringBuilder" "charAt" "(I)C") ∈ lw_tbl := lw_at lw_m7 30 rfl
theorem q1534 : (Jvm.Cond.instanceMethod ({ cls := "java/lang/StringBuilder", name := "charAt", desc := "(I)C" } : Jvm.MethodName)) ∈ lw_all := lw_g (lw_at lw_m7 31 rfl) rfl
theorem q1535 : (Jvm.Cond.publicMethod ({ cls := "java/lang/StringBuilder", name := "charAt", desc := "(I)C" } : Jvm.MethodName)) ∈ lw_tbl := lw_at lw_m7 32 rfl
theorem q1536 : (Jvm.Cond.code ({ cls := "java/lang/StringBuilder", name := "charAt", desc := "(I)C" } : Jvm.MethodName) prog_27_method_88_code (2 : Nat) (Option.some Jvm.ClassFile.FieldType.char)) ∈ lw_all := lw_g (lw_at lw_m7 33 rfl) rfl
theorem q1537 : (Jvm.Cond.methodLink "java/lang/StringBuilder" (329 : Nat) ({ cls := "java/lang/AbstractStringBuilder", name := "charAt", desc := "(I)C" } : Jvm.MethodName)) ∈ lw_all := lw_g (lw_at lw_m7 34 rfl) rfl
theorem q1702 : (Jvm.Cond.instanceMethod ({ cls := "java/lang/StringBuilder", name := "setLength", desc := "(I)V" } : Jvm.MethodName)) ∈ lw_all := lw_g (lw_at lw_m7 199 rfl) rfl
theorem q1703 : (Jvm.Cond.selects "java/lang/StringBuilder" ({ cls := "java/lang/StringBuilder", name := "setLength", desc := "(I)V" } : Jvm.MethodName) ({ cls := "java/lang/StringBuilder", name := "setLength", desc := "(I)V" } : Jvm.MethodName)) ∈ lw_all := lw_g (lw_at lw_m7 200 rfl) rfl
theorem q1704 : (Jvm.Cond.code ({ cls := "java/lang/StringBuilder", name := "setLength", desc := "(I)V" } : Jvm.MethodName) prog_27_method_89_code (2 : Nat) (Option.none : Option Jvm.ClassFile.FieldType)) ∈ lw_all := lw_g (lw_at lw_m7 201 rfl) rfl
theorem q1705 : (Jvm.Cond.methodLink "java/lang/StringBuilder" (333 : Nat) ({ cls := "java/lang/AbstractStringBuilder", name := "setLength", desc := "(I)V" } : Jvm.MethodName)) ∈ lw_all := lw_g (lw_at lw_m7 202 rfl) rfl
theorem q1734 : (Jvm.Cond.instanceMethod ({ cls := "java/lang/StringBuilder", name := "append", desc := "(I)Ljava/lang/StringBuilder;" } : Jvm.MethodName)) ∈ lw_all := lw_g (lw_at lw_m7 231 rfl) rfl
theorem q1735 : (Jvm.Cond.selects "java/lang/StringBuilder" ({ cls := "java/lang/StringBuilder", name := "append", desc := "(I)Ljava/lang/StringBuilder;" } : Jvm.MethodName) ({ cls := "java/lang/StringBuilder", name := "append", desc := "(I)Ljava/lang/StringBuilder;" } : Jvm.MethodName)) ∈ lw_all := lw_g (lw_at lw_m7 232 rfl) rfl
theorem q1736 : (Jvm.Cond.code ({ cls := "java/lang/StringBuilder", name := "append", desc := "(I)Ljava/lang/StringBuilder;" } : Jvm.MethodName) prog_27_method_15_code (2 : Nat) (Option.some (Jvm.ClassFile.FieldType.object "java/lang/StringBuilder"))) ∈ lw_all := lw_g (lw_at lw_m7 233 rfl) rfl
theorem q1737 : (Jvm.Cond.methodLink "java/lang/StringBuilder" (53 : Nat) ({ cls := "java/lang/AbstractStringBuilder", name := "append", desc := "(I)Ljava/lang/AbstractStringBuilder;" } : Jvm.MethodName)) ∈ lw_all := lw_g (lw_at lw_m7 234 rfl) rfl
theorem q2245 : (Jvm.Cond.selects "java/lang/StringBuilder" ({ cls := "java/lang/StringBuilder", name := "length", desc := "()I" } : Jvm.MethodName) ({ cls := "java/lang/StringBuilder", name := "length", desc := "()I" } : Jvm.MethodName)) ∈ lw_all := lw_g (lw_at lw_m10 22 rfl) rfl
theorem q2260 : (Jvm.Cond.castable "java/lang/StringBuilder" "java/lang/Object") ∈ lw_tbl := lw_at lw_m10 37 rfl
theorem in_J11 : ∀ w ∈ wsJ110, w ∈ lw_all := lw_in wsJ110 [393, 395, 397, 399] (by decide +kernel) (by decide +kernel)

/-! java/lang/String -/
set_option maxRecDepth 100000
def RJ12 : String := "java/lang/String"
def TJ12 : u_T := fun k => match k with
  | 0 => ("java/lang/String", "value", "[B", true)
  | 1 => ("java/lang/String", "coder", "B", true)
  | 2 => ("java/lang/String", "hash", "I", false)
  | _ => ("java/lang/String", "hashIsZero", "Z", false)
def tyJ12 : Nat → FieldType := fun k => match k with
  | 0 => .array .byte
  | 1 => .byte
  | 2 => .int
  | _ => .boolean
abbrev wsJ120 : List Cond := u_ws RJ12 TJ12 4
theorem nmJ12 : ∀ a, a < 4 → ∀ b, b < 4 → a ≠ b → (TJ12 a).2.1 ≠ (TJ12 b).2.1 := by decide +kernel
theorem tyJ12_ok : ∀ k, k < 4 → parseFieldDescriptor (TJ12 k).2.2.1 = some (tyJ12 k) := by decide +kernel
abbrev cJ12_checkBoundsBeginEnd : ByteArray := prog_26_method_158_code
def yJ12_checkBoundsBeginEnd : MethodName := ⟨RJ12, "checkBoundsBeginEnd", "(III)V"⟩
def dkwJ12_checkBoundsBeginEnd_0 : List UInt8 := [26, 27, 28, 178, 4, 29, 184, 4, 38, 87, 177]
abbrev dktJ12_checkBoundsBeginEnd_0 : List UInt8 := dkwJ12_checkBoundsBeginEnd_0 ++ []
theorem dksJ12_checkBoundsBeginEnd_0 : cJ12_checkBoundsBeginEnd.data.toList.drop 0 = dktJ12_checkBoundsBeginEnd_0 := by decide +kernel
theorem dJ12_checkBoundsBeginEnd_0 : decode cJ12_checkBoundsBeginEnd 0 = .ok (.iload_n 0, 1) := dk_26 (dk_at dksJ12_checkBoundsBeginEnd_0 0 rfl rfl)
theorem dJ12_checkBoundsBeginEnd_1 : decode cJ12_checkBoundsBeginEnd 1 = .ok (.iload_n 1, 1) := dk_27 (dk_at dksJ12_checkBoundsBeginEnd_0 1 rfl rfl)
theorem dJ12_checkBoundsBeginEnd_2 : decode cJ12_checkBoundsBeginEnd 2 = .ok (.iload_n 2, 1) := dk_28 (dk_at dksJ12_checkBoundsBeginEnd_0 2 rfl rfl)
theorem dJ12_checkBoundsBeginEnd_3 : decode cJ12_checkBoundsBeginEnd 3 = .ok (.getstatic 1053, 3) := dk_178 4 29 (dk_at dksJ12_checkBoundsBeginEnd_0 3 rfl rfl)
theorem dJ12_checkBoundsBeginEnd_6 : decode cJ12_checkBoundsBeginEnd 6 = .ok (.invokestatic 1062, 3) := dk_184 4 38 (dk_at dksJ12_checkBoundsBeginEnd_0 6 rfl rfl)
theorem dJ12_checkBoundsBeginEnd_9 : decode cJ12_checkBoundsBeginEnd 9 = .ok (.pop, 1) := dk_87 (dk_at dksJ12_checkBoundsBeginEnd_0 9 rfl rfl)
theorem dJ12_checkBoundsBeginEnd_10 : decode cJ12_checkBoundsBeginEnd 10 = .ok (.return_, 1) := dk_177 (dk_at dksJ12_checkBoundsBeginEnd_0 10 rfl rfl)
abbrev cJ12_length : ByteArray := prog_26_method_54_code
def yJ12_length : MethodName := ⟨RJ12, "length", "()I"⟩
def dkwJ12_length_0 : List UInt8 := [42, 180, 0, 9, 190, 42, 182, 1, 79, 122, 172]
abbrev dktJ12_length_0 : List UInt8 := dkwJ12_length_0 ++ []
theorem dksJ12_length_0 : cJ12_length.data.toList.drop 0 = dktJ12_length_0 := by decide +kernel
theorem dJ12_length_0 : decode cJ12_length 0 = .ok (.aload_n 0, 1) := dk_42 (dk_at dksJ12_length_0 0 rfl rfl)
theorem dJ12_length_1 : decode cJ12_length 1 = .ok (.getfield 9, 3) := dk_180 0 9 (dk_at dksJ12_length_0 1 rfl rfl)
theorem dJ12_length_4 : decode cJ12_length 4 = .ok (.arraylength, 1) := dk_190 (dk_at dksJ12_length_0 4 rfl rfl)
theorem dJ12_length_5 : decode cJ12_length 5 = .ok (.aload_n 0, 1) := dk_42 (dk_at dksJ12_length_0 5 rfl rfl)
theorem dJ12_length_6 : decode cJ12_length 6 = .ok (.invokevirtual 335, 3) := dk_182 1 79 (dk_at dksJ12_length_0 6 rfl rfl)
theorem dJ12_length_9 : decode cJ12_length 9 = .ok (.ishr, 1) := dk_122 (dk_at dksJ12_length_0 9 rfl rfl)
theorem dJ12_length_10 : decode cJ12_length 10 = .ok (.ireturn, 1) := dk_172 (dk_at dksJ12_length_0 10 rfl rfl)
abbrev cJ12_coder : ByteArray := prog_26_method_152_code
def yJ12_coder : MethodName := ⟨RJ12, "coder", "()B"⟩
def dkwJ12_coder_0 : List UInt8 := [178, 0, 38, 153, 0, 10, 42, 180, 0, 15, 167, 0, 4, 4, 172]
abbrev dktJ12_coder_0 : List UInt8 := dkwJ12_coder_0 ++ []
theorem dksJ12_coder_0 : cJ12_coder.data.toList.drop 0 = dktJ12_coder_0 := by decide +kernel
theorem dJ12_coder_0 : decode cJ12_coder 0 = .ok (.getstatic 38, 3) := dk_178 0 38 (dk_at dksJ12_coder_0 0 rfl rfl)
theorem dJ12_coder_3 : decode cJ12_coder 3 = .ok (.ifCond .eq 10, 3) := dk_153 0 10 (dk_at dksJ12_coder_0 3 rfl rfl)
theorem dJ12_coder_6 : decode cJ12_coder 6 = .ok (.aload_n 0, 1) := dk_42 (dk_at dksJ12_coder_0 6 rfl rfl)
theorem dJ12_coder_7 : decode cJ12_coder 7 = .ok (.getfield 15, 3) := dk_180 0 15 (dk_at dksJ12_coder_0 7 rfl rfl)
theorem dJ12_coder_10 : decode cJ12_coder 10 = .ok (.goto 4, 3) := dk_167 0 4 (dk_at dksJ12_coder_0 10 rfl rfl)
theorem dJ12_coder_13 : decode cJ12_coder 13 = .ok (.iconst 1, 1) := dk_4 (dk_at dksJ12_coder_0 13 rfl rfl)
theorem dJ12_coder_14 : decode cJ12_coder 14 = .ok (.ireturn, 1) := dk_172 (dk_at dksJ12_coder_0 14 rfl rfl)
abbrev cJ12_checkBoundsOffCount : ByteArray := prog_26_method_157_code
def yJ12_checkBoundsOffCount : MethodName := ⟨RJ12, "checkBoundsOffCount", "(III)I"⟩
def dkwJ12_checkBoundsOffCount_0 : List UInt8 := [26, 27, 28, 178, 4, 29, 184, 4, 41, 172]
abbrev dktJ12_checkBoundsOffCount_0 : List UInt8 := dkwJ12_checkBoundsOffCount_0 ++ []
theorem dksJ12_checkBoundsOffCount_0 : cJ12_checkBoundsOffCount.data.toList.drop 0 = dktJ12_checkBoundsOffCount_0 := by decide +kernel
theorem dJ12_checkBoundsOffCount_0 : decode cJ12_checkBoundsOffCount 0 = .ok (.iload_n 0, 1) := dk_26 (dk_at dksJ12_checkBoundsOffCount_0 0 rfl rfl)
theorem dJ12_checkBoundsOffCount_1 : decode cJ12_checkBoundsOffCount 1 = .ok (.iload_n 1, 1) := dk_27 (dk_at dksJ12_checkBoundsOffCount_0 1 rfl rfl)
theorem dJ12_checkBoundsOffCount_2 : decode cJ12_checkBoundsOffCount 2 = .ok (.iload_n 2, 1) := dk_28 (dk_at dksJ12_checkBoundsOffCount_0 2 rfl rfl)
theorem dJ12_checkBoundsOffCount_3 : decode cJ12_checkBoundsOffCount 3 = .ok (.getstatic 1053, 3) := dk_178 4 29 (dk_at dksJ12_checkBoundsOffCount_0 3 rfl rfl)
theorem dJ12_checkBoundsOffCount_6 : decode cJ12_checkBoundsOffCount 6 = .ok (.invokestatic 1065, 3) := dk_184 4 41 (dk_at dksJ12_checkBoundsOffCount_0 6 rfl rfl)
theorem dJ12_checkBoundsOffCount_9 : decode cJ12_checkBoundsOffCount 9 = .ok (.ireturn, 1) := dk_172 (dk_at dksJ12_checkBoundsOffCount_0 9 rfl rfl)
abbrev cJ12_getBytes : ByteArray := prog_26_method_147_code
def yJ12_getBytes : MethodName := ⟨RJ12, "getBytes", "([BIB)V"⟩
def dkwJ12_getBytes_1 : List UInt8 := [184, 0, 212, 167, 0, 18, 42, 180, 0, 9, 3, 43, 28, 42, 180, 0, 9, 190, 184, 0, 106, 177]
abbrev dktJ12_getBytes_1 : List UInt8 := dkwJ12_getBytes_1 ++ []
def dkwJ12_getBytes_0 : List UInt8 := [42, 182, 1, 79, 29, 160, 0, 23, 42, 180, 0, 9, 3, 43, 28, 29, 120, 42, 180, 0, 9, 190]
abbrev dktJ12_getBytes_0 : List UInt8 := dkwJ12_getBytes_0 ++ dktJ12_getBytes_1
theorem dksJ12_getBytes_0 : cJ12_getBytes.data.toList.drop 0 = dktJ12_getBytes_0 := by decide +kernel
theorem dksJ12_getBytes_1 : cJ12_getBytes.data.toList.drop 22 = dktJ12_getBytes_1 := dk_seg dksJ12_getBytes_0 22 rfl rfl
theorem dJ12_getBytes_0 : decode cJ12_getBytes 0 = .ok (.aload_n 0, 1) := dk_42 (dk_at dksJ12_getBytes_0 0 rfl rfl)
theorem dJ12_getBytes_1 : decode cJ12_getBytes 1 = .ok (.invokevirtual 335, 3) := dk_182 1 79 (dk_at dksJ12_getBytes_0 1 rfl rfl)
theorem dJ12_getBytes_4 : decode cJ12_getBytes 4 = .ok (.iload_n 3, 1) := dk_29 (dk_at dksJ12_getBytes_0 4 rfl rfl)
theorem dJ12_getBytes_5 : decode cJ12_getBytes 5 = .ok (.if_icmp .ne 23, 3) := dk_160 0 23 (dk_at dksJ12_getBytes_0 5 rfl rfl)
theorem dJ12_getBytes_8 : decode cJ12_getBytes 8 = .ok (.aload_n 0, 1) := dk_42 (dk_at dksJ12_getBytes_0 8 rfl rfl)
theorem dJ12_getBytes_9 : decode cJ12_getBytes 9 = .ok (.getfield 9, 3) := dk_180 0 9 (dk_at dksJ12_getBytes_0 9 rfl rfl)
theorem dJ12_getBytes_12 : decode cJ12_getBytes 12 = .ok (.iconst 0, 1) := dk_3 (dk_at dksJ12_getBytes_0 12 rfl rfl)
theorem dJ12_getBytes_13 : decode cJ12_getBytes 13 = .ok (.aload_n 1, 1) := dk_43 (dk_at dksJ12_getBytes_0 13 rfl rfl)
theorem dJ12_getBytes_14 : decode cJ12_getBytes 14 = .ok (.iload_n 2, 1) := dk_28 (dk_at dksJ12_getBytes_0 14 rfl rfl)
theorem dJ12_getBytes_15 : decode cJ12_getBytes 15 = .ok (.iload_n 3, 1) := dk_29 (dk_at dksJ12_getBytes_0 15 rfl rfl)
theorem dJ12_getBytes_16 : decode cJ12_getBytes 16 = .ok (.ishl, 1) := dk_120 (dk_at dksJ12_getBytes_0 16 rfl rfl)
theorem dJ12_getBytes_17 : decode cJ12_getBytes 17 = .ok (.aload_n 0, 1) := dk_42 (dk_at dksJ12_getBytes_0 17 rfl rfl)
theorem dJ12_getBytes_18 : decode cJ12_getBytes 18 = .ok (.getfield 9, 3) := dk_180 0 9 (dk_at dksJ12_getBytes_0 18 rfl rfl)
theorem dJ12_getBytes_21 : decode cJ12_getBytes 21 = .ok (.arraylength, 1) := dk_190 (dk_at dksJ12_getBytes_0 21 rfl rfl)
theorem dJ12_getBytes_22 : decode cJ12_getBytes 22 = .ok (.invokestatic 212, 3) := dk_184 0 212 (dk_at dksJ12_getBytes_1 0 rfl rfl)
theorem dJ12_getBytes_25 : decode cJ12_getBytes 25 = .ok (.goto 18, 3) := dk_167 0 18 (dk_at dksJ12_getBytes_1 3 rfl rfl)
theorem dJ12_getBytes_28 : decode cJ12_getBytes 28 = .ok (.aload_n 0, 1) := dk_42 (dk_at dksJ12_getBytes_1 6 rfl rfl)
theorem dJ12_getBytes_29 : decode cJ12_getBytes 29 = .ok (.getfield 9, 3) := dk_180 0 9 (dk_at dksJ12_getBytes_1 7 rfl rfl)
theorem dJ12_getBytes_32 : decode cJ12_getBytes 32 = .ok (.iconst 0, 1) := dk_3 (dk_at dksJ12_getBytes_1 10 rfl rfl)
theorem dJ12_getBytes_33 : decode cJ12_getBytes 33 = .ok (.aload_n 1, 1) := dk_43 (dk_at dksJ12_getBytes_1 11 rfl rfl)
theorem dJ12_getBytes_34 : decode cJ12_getBytes 34 = .ok (.iload_n 2, 1) := dk_28 (dk_at dksJ12_getBytes_1 12 rfl rfl)
theorem dJ12_getBytes_35 : decode cJ12_getBytes 35 = .ok (.aload_n 0, 1) := dk_42 (dk_at dksJ12_getBytes_1 13 rfl rfl)
theorem dJ12_getBytes_36 : decode cJ12_getBytes 36 = .ok (.getfield 9, 3) := dk_180 0 9 (dk_at dksJ12_getBytes_1 14 rfl rfl)
theorem dJ12_getBytes_39 : decode cJ12_getBytes 39 = .ok (.arraylength, 1) := dk_190 (dk_at dksJ12_getBytes_1 17 rfl rfl)
theorem dJ12_getBytes_40 : decode cJ12_getBytes 40 = .ok (.invokestatic 106, 3) := dk_184 0 106 (dk_at dksJ12_getBytes_1 18 rfl rfl)
theorem dJ12_getBytes_43 : decode cJ12_getBytes 43 = .ok (.return_, 1) := dk_177 (dk_at dksJ12_getBytes_1 21 rfl rfl)
abbrev cJ12_init : ByteArray := prog_26_method_53_code
def yJ12_init : MethodName := ⟨RJ12, "<init>", "(Ljava/lang/StringBuilder;)V"⟩
def dkwJ12_init_0 : List UInt8 := [42, 43, 1, 183, 1, 233, 177]
abbrev dktJ12_init_0 : List UInt8 := dkwJ12_init_0 ++ []
theorem dksJ12_init_0 : cJ12_init.data.toList.drop 0 = dktJ12_init_0 := by decide +kernel
theorem dJ12_init_0 : decode cJ12_init 0 = .ok (.aload_n 0, 1) := dk_42 (dk_at dksJ12_init_0 0 rfl rfl)
theorem dJ12_init_1 : decode cJ12_init 1 = .ok (.aload_n 1, 1) := dk_43 (dk_at dksJ12_init_0 1 rfl rfl)
theorem dJ12_init_2 : decode cJ12_init 2 = .ok (.aconst_null, 1) := dk_1 (dk_at dksJ12_init_0 2 rfl rfl)
theorem dJ12_init_3 : decode cJ12_init 3 = .ok (.invokespecial 489, 3) := dk_183 1 233 (dk_at dksJ12_init_0 3 rfl rfl)
theorem dJ12_init_6 : decode cJ12_init 6 = .ok (.return_, 1) := dk_177 (dk_at dksJ12_init_0 6 rfl rfl)
abbrev cJ12_init_2 : ByteArray := prog_26_method_150_code
def yJ12_init_2 : MethodName := ⟨RJ12, "<init>", "(Ljava/lang/AbstractStringBuilder;Ljava/lang/Void;)V"⟩
def dkwJ12_init_2_4 : List UInt8 := [181, 0, 9, 177]
abbrev dktJ12_init_2_4 : List UInt8 := dkwJ12_init_2_4 ++ []
def dkwJ12_init_2_3 : List UInt8 := [184, 0, 47, 181, 0, 15, 177, 42, 4, 181, 0, 15, 42, 45, 3, 21, 4, 4, 120, 184, 0, 54]
abbrev dktJ12_init_2_3 : List UInt8 := dkwJ12_init_2_3 ++ dktJ12_init_2_4
def dkwJ12_init_2_2 : List UInt8 := [180, 4, 24, 153, 0, 28, 42, 45, 3, 21, 4, 184, 4, 27, 181, 0, 9, 42, 42, 180, 0, 9, 21, 4]
abbrev dktJ12_init_2_2 : List UInt8 := dkwJ12_init_2_2 ++ dktJ12_init_2_3
def dkwJ12_init_2_1 : List UInt8 := [181, 0, 15, 42, 45, 3, 21, 4, 184, 0, 54, 181, 0, 9, 167, 0, 59, 178, 0, 38, 153, 0, 35, 43]
abbrev dktJ12_init_2_1 : List UInt8 := dkwJ12_init_2_1 ++ dktJ12_init_2_2
def dkwJ12_init_2_0 : List UInt8 := [42, 183, 0, 1, 43, 182, 2, 40, 78, 43, 182, 2, 37, 54, 4, 43, 182, 4, 23, 153, 0, 22, 42, 3]
abbrev dktJ12_init_2_0 : List UInt8 := dkwJ12_init_2_0 ++ dktJ12_init_2_1
theorem dksJ12_init_2_0 : cJ12_init_2.data.toList.drop 0 = dktJ12_init_2_0 := by decide +kernel
theorem dksJ12_init_2_1 : cJ12_init_2.data.toList.drop 24 = dktJ12_init_2_1 := dk_seg dksJ12_init_2_0 24 rfl rfl
theorem dksJ12_init_2_2 : cJ12_init_2.data.toList.drop 48 = dktJ12_init_2_2 := dk_seg dksJ12_init_2_1 24 rfl rfl
theorem dksJ12_init_2_3 : cJ12_init_2.data.toList.drop 72 = dktJ12_init_2_3 := dk_seg dksJ12_init_2_2 24 rfl rfl
theorem dksJ12_init_2_4 : cJ12_init_2.data.toList.drop 94 = dktJ12_init_2_4 := dk_seg dksJ12_init_2_3 22 rfl rfl
theorem dJ12_init_2_0 : decode cJ12_init_2 0 = .ok (.aload_n 0, 1) := dk_42 (dk_at dksJ12_init_2_0 0 rfl rfl)
theorem dJ12_init_2_1 : decode cJ12_init_2 1 = .ok (.invokespecial 1, 3) := dk_183 0 1 (dk_at dksJ12_init_2_0 1 rfl rfl)
theorem dJ12_init_2_4 : decode cJ12_init_2 4 = .ok (.aload_n 1, 1) := dk_43 (dk_at dksJ12_init_2_0 4 rfl rfl)
theorem dJ12_init_2_5 : decode cJ12_init_2 5 = .ok (.invokevirtual 552, 3) := dk_182 2 40 (dk_at dksJ12_init_2_0 5 rfl rfl)
theorem dJ12_init_2_8 : decode cJ12_init_2 8 = .ok (.astore_n 3, 1) := dk_78 (dk_at dksJ12_init_2_0 8 rfl rfl)
theorem dJ12_init_2_9 : decode cJ12_init_2 9 = .ok (.aload_n 1, 1) := dk_43 (dk_at dksJ12_init_2_0 9 rfl rfl)
theorem dJ12_init_2_10 : decode cJ12_init_2 10 = .ok (.invokevirtual 549, 3) := dk_182 2 37 (dk_at dksJ12_init_2_0 10 rfl rfl)
theorem dJ12_init_2_13 : decode cJ12_init_2 13 = .ok (.istore 4, 2) := dk_54 4 (dk_at dksJ12_init_2_0 13 rfl rfl)
theorem dJ12_init_2_15 : decode cJ12_init_2 15 = .ok (.aload_n 1, 1) := dk_43 (dk_at dksJ12_init_2_0 15 rfl rfl)
theorem dJ12_init_2_16 : decode cJ12_init_2 16 = .ok (.invokevirtual 1047, 3) := dk_182 4 23 (dk_at dksJ12_init_2_0 16 rfl rfl)
theorem dJ12_init_2_19 : decode cJ12_init_2 19 = .ok (.ifCond .eq 22, 3) := dk_153 0 22 (dk_at dksJ12_init_2_0 19 rfl rfl)
theorem dJ12_init_2_22 : decode cJ12_init_2 22 = .ok (.aload_n 0, 1) := dk_42 (dk_at dksJ12_init_2_0 22 rfl rfl)
theorem dJ12_init_2_23 : decode cJ12_init_2 23 = .ok (.iconst 0, 1) := dk_3 (dk_at dksJ12_init_2_0 23 rfl rfl)
theorem dJ12_init_2_24 : decode cJ12_init_2 24 = .ok (.putfield 15, 3) := dk_181 0 15 (dk_at dksJ12_init_2_1 0 rfl rfl)
theorem dJ12_init_2_27 : decode cJ12_init_2 27 = .ok (.aload_n 0, 1) := dk_42 (dk_at dksJ12_init_2_1 3 rfl rfl)
theorem dJ12_init_2_28 : decode cJ12_init_2 28 = .ok (.aload_n 3, 1) := dk_45 (dk_at dksJ12_init_2_1 4 rfl rfl)
theorem dJ12_init_2_29 : decode cJ12_init_2 29 = .ok (.iconst 0, 1) := dk_3 (dk_at dksJ12_init_2_1 5 rfl rfl)
theorem dJ12_init_2_30 : decode cJ12_init_2 30 = .ok (.iload 4, 2) := dk_21 4 (dk_at dksJ12_init_2_1 6 rfl rfl)
theorem dJ12_init_2_32 : decode cJ12_init_2 32 = .ok (.invokestatic 54, 3) := dk_184 0 54 (dk_at dksJ12_init_2_1 8 rfl rfl)
theorem dJ12_init_2_35 : decode cJ12_init_2 35 = .ok (.putfield 9, 3) := dk_181 0 9 (dk_at dksJ12_init_2_1 11 rfl rfl)
theorem dJ12_init_2_38 : decode cJ12_init_2 38 = .ok (.goto 59, 3) := dk_167 0 59 (dk_at dksJ12_init_2_1 14 rfl rfl)
theorem dJ12_init_2_41 : decode cJ12_init_2 41 = .ok (.getstatic 38, 3) := dk_178 0 38 (dk_at dksJ12_init_2_1 17 rfl rfl)
theorem dJ12_init_2_44 : decode cJ12_init_2 44 = .ok (.ifCond .eq 35, 3) := dk_153 0 35 (dk_at dksJ12_init_2_1 20 rfl rfl)
theorem dJ12_init_2_47 : decode cJ12_init_2 47 = .ok (.aload_n 1, 1) := dk_43 (dk_at dksJ12_init_2_1 23 rfl rfl)
theorem dJ12_init_2_48 : decode cJ12_init_2 48 = .ok (.getfield 1048, 3) := dk_180 4 24 (dk_at dksJ12_init_2_2 0 rfl rfl)
theorem dJ12_init_2_51 : decode cJ12_init_2 51 = .ok (.ifCond .eq 28, 3) := dk_153 0 28 (dk_at dksJ12_init_2_2 3 rfl rfl)
theorem dJ12_init_2_54 : decode cJ12_init_2 54 = .ok (.aload_n 0, 1) := dk_42 (dk_at dksJ12_init_2_2 6 rfl rfl)
theorem dJ12_init_2_55 : decode cJ12_init_2 55 = .ok (.aload_n 3, 1) := dk_45 (dk_at dksJ12_init_2_2 7 rfl rfl)
theorem dJ12_init_2_56 : decode cJ12_init_2 56 = .ok (.iconst 0, 1) := dk_3 (dk_at dksJ12_init_2_2 8 rfl rfl)
theorem dJ12_init_2_57 : decode cJ12_init_2 57 = .ok (.iload 4, 2) := dk_21 4 (dk_at dksJ12_init_2_2 9 rfl rfl)
theorem dJ12_init_2_59 : decode cJ12_init_2 59 = .ok (.invokestatic 1051, 3) := dk_184 4 27 (dk_at dksJ12_init_2_2 11 rfl rfl)
theorem dJ12_init_2_62 : decode cJ12_init_2 62 = .ok (.putfield 9, 3) := dk_181 0 9 (dk_at dksJ12_init_2_2 14 rfl rfl)
theorem dJ12_init_2_65 : decode cJ12_init_2 65 = .ok (.aload_n 0, 1) := dk_42 (dk_at dksJ12_init_2_2 17 rfl rfl)
theorem dJ12_init_2_66 : decode cJ12_init_2 66 = .ok (.aload_n 0, 1) := dk_42 (dk_at dksJ12_init_2_2 18 rfl rfl)
theorem dJ12_init_2_67 : decode cJ12_init_2 67 = .ok (.getfield 9, 3) := dk_180 0 9 (dk_at dksJ12_init_2_2 19 rfl rfl)
theorem dJ12_init_2_70 : decode cJ12_init_2 70 = .ok (.iload 4, 2) := dk_21 4 (dk_at dksJ12_init_2_2 22 rfl rfl)
theorem dJ12_init_2_72 : decode cJ12_init_2 72 = .ok (.invokestatic 47, 3) := dk_184 0 47 (dk_at dksJ12_init_2_3 0 rfl rfl)
theorem dJ12_init_2_75 : decode cJ12_init_2 75 = .ok (.putfield 15, 3) := dk_181 0 15 (dk_at dksJ12_init_2_3 3 rfl rfl)
theorem dJ12_init_2_78 : decode cJ12_init_2 78 = .ok (.return_, 1) := dk_177 (dk_at dksJ12_init_2_3 6 rfl rfl)
theorem dJ12_init_2_79 : decode cJ12_init_2 79 = .ok (.aload_n 0, 1) := dk_42 (dk_at dksJ12_init_2_3 7 rfl rfl)
theorem dJ12_init_2_80 : decode cJ12_init_2 80 = .ok (.iconst 1, 1) := dk_4 (dk_at dksJ12_init_2_3 8 rfl rfl)
theorem dJ12_init_2_81 : decode cJ12_init_2 81 = .ok (.putfield 15, 3) := dk_181 0 15 (dk_at dksJ12_init_2_3 9 rfl rfl)
theorem dJ12_init_2_84 : decode cJ12_init_2 84 = .ok (.aload_n 0, 1) := dk_42 (dk_at dksJ12_init_2_3 12 rfl rfl)
theorem dJ12_init_2_85 : decode cJ12_init_2 85 = .ok (.aload_n 3, 1) := dk_45 (dk_at dksJ12_init_2_3 13 rfl rfl)
theorem dJ12_init_2_86 : decode cJ12_init_2 86 = .ok (.iconst 0, 1) := dk_3 (dk_at dksJ12_init_2_3 14 rfl rfl)
theorem dJ12_init_2_87 : decode cJ12_init_2 87 = .ok (.iload 4, 2) := dk_21 4 (dk_at dksJ12_init_2_3 15 rfl rfl)
theorem dJ12_init_2_89 : decode cJ12_init_2 89 = .ok (.iconst 1, 1) := dk_4 (dk_at dksJ12_init_2_3 17 rfl rfl)
theorem dJ12_init_2_90 : decode cJ12_init_2 90 = .ok (.ishl, 1) := dk_120 (dk_at dksJ12_init_2_3 18 rfl rfl)
theorem dJ12_init_2_91 : decode cJ12_init_2 91 = .ok (.invokestatic 54, 3) := dk_184 0 54 (dk_at dksJ12_init_2_3 19 rfl rfl)
theorem dJ12_init_2_94 : decode cJ12_init_2 94 = .ok (.putfield 9, 3) := dk_181 0 9 (dk_at dksJ12_init_2_4 0 rfl rfl)
theorem dJ12_init_2_97 : decode cJ12_init_2 97 = .ok (.return_, 1) := dk_177 (dk_at dksJ12_init_2_4 3 rfl rfl)
abbrev cJ12_checkIndex : ByteArray := prog_26_method_155_code
def yJ12_checkIndex : MethodName := ⟨RJ12, "checkIndex", "(II)V"⟩
def dkwJ12_checkIndex_0 : List UInt8 := [26, 27, 178, 4, 29, 184, 4, 35, 87, 177]
abbrev dktJ12_checkIndex_0 : List UInt8 := dkwJ12_checkIndex_0 ++ []
theorem dksJ12_checkIndex_0 : cJ12_checkIndex.data.toList.drop 0 = dktJ12_checkIndex_0 := by decide +kernel
theorem dJ12_checkIndex_0 : decode cJ12_checkIndex 0 = .ok (.iload_n 0, 1) := dk_26 (dk_at dksJ12_checkIndex_0 0 rfl rfl)
theorem dJ12_checkIndex_1 : decode cJ12_checkIndex 1 = .ok (.iload_n 1, 1) := dk_27 (dk_at dksJ12_checkIndex_0 1 rfl rfl)
theorem dJ12_checkIndex_2 : decode cJ12_checkIndex 2 = .ok (.getstatic 1053, 3) := dk_178 4 29 (dk_at dksJ12_checkIndex_0 2 rfl rfl)
theorem dJ12_checkIndex_5 : decode cJ12_checkIndex 5 = .ok (.invokestatic 1059, 3) := dk_184 4 35 (dk_at dksJ12_checkIndex_0 5 rfl rfl)
theorem dJ12_checkIndex_8 : decode cJ12_checkIndex 8 = .ok (.pop, 1) := dk_87 (dk_at dksJ12_checkIndex_0 8 rfl rfl)
theorem dJ12_checkIndex_9 : decode cJ12_checkIndex 9 = .ok (.return_, 1) := dk_177 (dk_at dksJ12_checkIndex_0 9 rfl rfl)
abbrev cJ12_charAt : ByteArray := prog_26_method_56_code
def yJ12_charAt : MethodName := ⟨RJ12, "charAt", "(I)C"⟩
def dkwJ12_charAt_1 : List UInt8 := [172]
abbrev dktJ12_charAt_1 : List UInt8 := dkwJ12_charAt_1 ++ []
def dkwJ12_charAt_0 : List UInt8 := [42, 182, 1, 236, 153, 0, 12, 42, 180, 0, 9, 27, 184, 1, 239, 172, 42, 180, 0, 9, 27, 184, 1, 242]
abbrev dktJ12_charAt_0 : List UInt8 := dkwJ12_charAt_0 ++ dktJ12_charAt_1
theorem dksJ12_charAt_0 : cJ12_charAt.data.toList.drop 0 = dktJ12_charAt_0 := by decide +kernel
theorem dksJ12_charAt_1 : cJ12_charAt.data.toList.drop 24 = dktJ12_charAt_1 := dk_seg dksJ12_charAt_0 24 rfl rfl
theorem dJ12_charAt_0 : decode cJ12_charAt 0 = .ok (.aload_n 0, 1) := dk_42 (dk_at dksJ12_charAt_0 0 rfl rfl)
theorem dJ12_charAt_1 : decode cJ12_charAt 1 = .ok (.invokevirtual 492, 3) := dk_182 1 236 (dk_at dksJ12_charAt_0 1 rfl rfl)
theorem dJ12_charAt_4 : decode cJ12_charAt 4 = .ok (.ifCond .eq 12, 3) := dk_153 0 12 (dk_at dksJ12_charAt_0 4 rfl rfl)
theorem dJ12_charAt_7 : decode cJ12_charAt 7 = .ok (.aload_n 0, 1) := dk_42 (dk_at dksJ12_charAt_0 7 rfl rfl)
theorem dJ12_charAt_8 : decode cJ12_charAt 8 = .ok (.getfield 9, 3) := dk_180 0 9 (dk_at dksJ12_charAt_0 8 rfl rfl)
theorem dJ12_charAt_11 : decode cJ12_charAt 11 = .ok (.iload_n 1, 1) := dk_27 (dk_at dksJ12_charAt_0 11 rfl rfl)
theorem dJ12_charAt_12 : decode cJ12_charAt 12 = .ok (.invokestatic 495, 3) := dk_184 1 239 (dk_at dksJ12_charAt_0 12 rfl rfl)
theorem dJ12_charAt_15 : decode cJ12_charAt 15 = .ok (.ireturn, 1) := dk_172 (dk_at dksJ12_charAt_0 15 rfl rfl)
theorem dJ12_charAt_16 : decode cJ12_charAt 16 = .ok (.aload_n 0, 1) := dk_42 (dk_at dksJ12_charAt_0 16 rfl rfl)
theorem dJ12_charAt_17 : decode cJ12_charAt 17 = .ok (.getfield 9, 3) := dk_180 0 9 (dk_at dksJ12_charAt_0 17 rfl rfl)
theorem dJ12_charAt_20 : decode cJ12_charAt 20 = .ok (.iload_n 1, 1) := dk_27 (dk_at dksJ12_charAt_0 20 rfl rfl)
theorem dJ12_charAt_21 : decode cJ12_charAt 21 = .ok (.invokestatic 498, 3) := dk_184 1 242 (dk_at dksJ12_charAt_0 21 rfl rfl)
theorem dJ12_charAt_24 : decode cJ12_charAt 24 = .ok (.ireturn, 1) := dk_172 (dk_at dksJ12_charAt_1 0 rfl rfl)
abbrev cJ12_isLatin1 : ByteArray := prog_26_method_154_code
def yJ12_isLatin1 : MethodName := ⟨RJ12, "isLatin1", "()Z"⟩
def dkwJ12_isLatin1_0 : List UInt8 := [178, 0, 38, 153, 0, 14, 42, 180, 0, 15, 154, 0, 7, 4, 167, 0, 4, 3, 172]
abbrev dktJ12_isLatin1_0 : List UInt8 := dkwJ12_isLatin1_0 ++ []
theorem dksJ12_isLatin1_0 : cJ12_isLatin1.data.toList.drop 0 = dktJ12_isLatin1_0 := by decide +kernel
theorem dJ12_isLatin1_0 : decode cJ12_isLatin1 0 = .ok (.getstatic 38, 3) := dk_178 0 38 (dk_at dksJ12_isLatin1_0 0 rfl rfl)
theorem dJ12_isLatin1_3 : decode cJ12_isLatin1 3 = .ok (.ifCond .eq 14, 3) := dk_153 0 14 (dk_at dksJ12_isLatin1_0 3 rfl rfl)
theorem dJ12_isLatin1_6 : decode cJ12_isLatin1 6 = .ok (.aload_n 0, 1) := dk_42 (dk_at dksJ12_isLatin1_0 6 rfl rfl)
theorem dJ12_isLatin1_7 : decode cJ12_isLatin1 7 = .ok (.getfield 15, 3) := dk_180 0 15 (dk_at dksJ12_isLatin1_0 7 rfl rfl)
theorem dJ12_isLatin1_10 : decode cJ12_isLatin1 10 = .ok (.ifCond .ne 7, 3) := dk_154 0 7 (dk_at dksJ12_isLatin1_0 10 rfl rfl)
theorem dJ12_isLatin1_13 : decode cJ12_isLatin1 13 = .ok (.iconst 1, 1) := dk_4 (dk_at dksJ12_isLatin1_0 13 rfl rfl)
theorem dJ12_isLatin1_14 : decode cJ12_isLatin1 14 = .ok (.goto 4, 3) := dk_167 0 4 (dk_at dksJ12_isLatin1_0 14 rfl rfl)
theorem dJ12_isLatin1_17 : decode cJ12_isLatin1 17 = .ok (.iconst 0, 1) := dk_3 (dk_at dksJ12_isLatin1_0 17 rfl rfl)
theorem dJ12_isLatin1_18 : decode cJ12_isLatin1 18 = .ok (.ireturn, 1) := dk_172 (dk_at dksJ12_isLatin1_0 18 rfl rfl)
abbrev cJ12_hashCode : ByteArray := prog_26_method_78_code
def yJ12_hashCode : MethodName := ⟨RJ12, "hashCode", "()I"⟩
def dkwJ12_hashCode_2 : List UInt8 := [181, 0, 23, 167, 0, 8, 42, 27, 181, 0, 19, 27, 172]
abbrev dktJ12_hashCode_2 : List UInt8 := dkwJ12_hashCode_2 ++ []
def dkwJ12_hashCode_1 : List UInt8 := [180, 0, 9, 184, 2, 116, 167, 0, 10, 42, 180, 0, 9, 184, 2, 120, 60, 27, 154, 0, 11, 42, 4]
abbrev dktJ12_hashCode_1 : List UInt8 := dkwJ12_hashCode_1 ++ dktJ12_hashCode_2
def dkwJ12_hashCode_0 : List UInt8 := [42, 180, 0, 19, 60, 27, 154, 0, 52, 42, 180, 0, 23, 154, 0, 45, 42, 182, 1, 236, 153, 0, 13, 42]
abbrev dktJ12_hashCode_0 : List UInt8 := dkwJ12_hashCode_0 ++ dktJ12_hashCode_1
theorem dksJ12_hashCode_0 : cJ12_hashCode.data.toList.drop 0 = dktJ12_hashCode_0 := by decide +kernel
theorem dksJ12_hashCode_1 : cJ12_hashCode.data.toList.drop 24 = dktJ12_hashCode_1 := dk_seg dksJ12_hashCode_0 24 rfl rfl
theorem dksJ12_hashCode_2 : cJ12_hashCode.data.toList.drop 47 = dktJ12_hashCode_2 := dk_seg dksJ12_hashCode_1 23 rfl rfl
theorem dJ12_hashCode_0 : decode cJ12_hashCode 0 = .ok (.aload_n 0, 1) := dk_42 (dk_at dksJ12_hashCode_0 0 rfl rfl)
theorem dJ12_hashCode_1 : decode cJ12_hashCode 1 = .ok (.getfield 19, 3) := dk_180 0 19 (dk_at dksJ12_hashCode_0 1 rfl rfl)
theorem dJ12_hashCode_4 : decode cJ12_hashCode 4 = .ok (.istore_n 1, 1) := dk_60 (dk_at dksJ12_hashCode_0 4 rfl rfl)
theorem dJ12_hashCode_5 : decode cJ12_hashCode 5 = .ok (.iload_n 1, 1) := dk_27 (dk_at dksJ12_hashCode_0 5 rfl rfl)
theorem dJ12_hashCode_6 : decode cJ12_hashCode 6 = .ok (.ifCond .ne 52, 3) := dk_154 0 52 (dk_at dksJ12_hashCode_0 6 rfl rfl)
theorem dJ12_hashCode_9 : decode cJ12_hashCode 9 = .ok (.aload_n 0, 1) := dk_42 (dk_at dksJ12_hashCode_0 9 rfl rfl)
theorem dJ12_hashCode_10 : decode cJ12_hashCode 10 = .ok (.getfield 23, 3) := dk_180 0 23 (dk_at dksJ12_hashCode_0 10 rfl rfl)
theorem dJ12_hashCode_13 : decode cJ12_hashCode 13 = .ok (.ifCond .ne 45, 3) := dk_154 0 45 (dk_at dksJ12_hashCode_0 13 rfl rfl)
theorem dJ12_hashCode_16 : decode cJ12_hashCode 16 = .ok (.aload_n 0, 1) := dk_42 (dk_at dksJ12_hashCode_0 16 rfl rfl)
theorem dJ12_hashCode_17 : decode cJ12_hashCode 17 = .ok (.invokevirtual 492, 3) := dk_182 1 236 (dk_at dksJ12_hashCode_0 17 rfl rfl)
theorem dJ12_hashCode_20 : decode cJ12_hashCode 20 = .ok (.ifCond .eq 13, 3) := dk_153 0 13 (dk_at dksJ12_hashCode_0 20 rfl rfl)
theorem dJ12_hashCode_23 : decode cJ12_hashCode 23 = .ok (.aload_n 0, 1) := dk_42 (dk_at dksJ12_hashCode_0 23 rfl rfl)
theorem dJ12_hashCode_24 : decode cJ12_hashCode 24 = .ok (.getfield 9, 3) := dk_180 0 9 (dk_at dksJ12_hashCode_1 0 rfl rfl)
theorem dJ12_hashCode_27 : decode cJ12_hashCode 27 = .ok (.invokestatic 628, 3) := dk_184 2 116 (dk_at dksJ12_hashCode_1 3 rfl rfl)
theorem dJ12_hashCode_30 : decode cJ12_hashCode 30 = .ok (.goto 10, 3) := dk_167 0 10 (dk_at dksJ12_hashCode_1 6 rfl rfl)
theorem dJ12_hashCode_33 : decode cJ12_hashCode 33 = .ok (.aload_n 0, 1) := dk_42 (dk_at dksJ12_hashCode_1 9 rfl rfl)
theorem dJ12_hashCode_34 : decode cJ12_hashCode 34 = .ok (.getfield 9, 3) := dk_180 0 9 (dk_at dksJ12_hashCode_1 10 rfl rfl)
theorem dJ12_hashCode_37 : decode cJ12_hashCode 37 = .ok (.invokestatic 632, 3) := dk_184 2 120 (dk_at dksJ12_hashCode_1 13 rfl rfl)
theorem dJ12_hashCode_40 : decode cJ12_hashCode 40 = .ok (.istore_n 1, 1) := dk_60 (dk_at dksJ12_hashCode_1 16 rfl rfl)
theorem dJ12_hashCode_41 : decode cJ12_hashCode 41 = .ok (.iload_n 1, 1) := dk_27 (dk_at dksJ12_hashCode_1 17 rfl rfl)
theorem dJ12_hashCode_42 : decode cJ12_hashCode 42 = .ok (.ifCond .ne 11, 3) := dk_154 0 11 (dk_at dksJ12_hashCode_1 18 rfl rfl)
theorem dJ12_hashCode_45 : decode cJ12_hashCode 45 = .ok (.aload_n 0, 1) := dk_42 (dk_at dksJ12_hashCode_1 21 rfl rfl)
theorem dJ12_hashCode_46 : decode cJ12_hashCode 46 = .ok (.iconst 1, 1) := dk_4 (dk_at dksJ12_hashCode_1 22 rfl rfl)
theorem dJ12_hashCode_47 : decode cJ12_hashCode 47 = .ok (.putfield 23, 3) := dk_181 0 23 (dk_at dksJ12_hashCode_2 0 rfl rfl)
theorem dJ12_hashCode_50 : decode cJ12_hashCode 50 = .ok (.goto 8, 3) := dk_167 0 8 (dk_at dksJ12_hashCode_2 3 rfl rfl)
theorem dJ12_hashCode_53 : decode cJ12_hashCode 53 = .ok (.aload_n 0, 1) := dk_42 (dk_at dksJ12_hashCode_2 6 rfl rfl)
theorem dJ12_hashCode_54 : decode cJ12_hashCode 54 = .ok (.iload_n 1, 1) := dk_27 (dk_at dksJ12_hashCode_2 7 rfl rfl)
theorem dJ12_hashCode_55 : decode cJ12_hashCode 55 = .ok (.putfield 19, 3) := dk_181 0 19 (dk_at dksJ12_hashCode_2 8 rfl rfl)
theorem dJ12_hashCode_58 : decode cJ12_hashCode 58 = .ok (.iload_n 1, 1) := dk_27 (dk_at dksJ12_hashCode_2 11 rfl rfl)
theorem dJ12_hashCode_59 : decode cJ12_hashCode 59 = .ok (.ireturn, 1) := dk_172 (dk_at dksJ12_hashCode_2 12 rfl rfl)
abbrev cJ12_equals : ByteArray := prog_26_method_66_code
def yJ12_equals : MethodName := ⟨RJ12, "equals", "(Ljava/lang/Object;)Z"⟩
def dkwJ12_equals_2 : List UInt8 := [184, 2, 29, 153, 0, 7, 4, 167, 0, 4, 3, 172]
abbrev dktJ12_equals_2 : List UInt8 := dkwJ12_equals_2 ++ []
def dkwJ12_equals_1 : List UInt8 := [153, 0, 14, 42, 180, 0, 15, 44, 180, 0, 15, 160, 0, 21, 42, 180, 0, 9, 44, 180, 0, 9]
abbrev dktJ12_equals_1 : List UInt8 := dkwJ12_equals_1 ++ dktJ12_equals_2
def dkwJ12_equals_0 : List UInt8 := [42, 43, 166, 0, 5, 4, 172, 43, 193, 0, 10, 153, 0, 43, 43, 192, 0, 10, 77, 178, 0, 38]
abbrev dktJ12_equals_0 : List UInt8 := dkwJ12_equals_0 ++ dktJ12_equals_1
theorem dksJ12_equals_0 : cJ12_equals.data.toList.drop 0 = dktJ12_equals_0 := by decide +kernel
theorem dksJ12_equals_1 : cJ12_equals.data.toList.drop 22 = dktJ12_equals_1 := dk_seg dksJ12_equals_0 22 rfl rfl
theorem dksJ12_equals_2 : cJ12_equals.data.toList.drop 44 = dktJ12_equals_2 := dk_seg dksJ12_equals_1 22 rfl rfl
theorem dJ12_equals_0 : decode cJ12_equals 0 = .ok (.aload_n 0, 1) := dk_42 (dk_at dksJ12_equals_0 0 rfl rfl)
theorem dJ12_equals_1 : decode cJ12_equals 1 = .ok (.aload_n 1, 1) := dk_43 (dk_at dksJ12_equals_0 1 rfl rfl)
theorem dJ12_equals_2 : decode cJ12_equals 2 = .ok (.if_acmp .ne 5, 3) := dk_166 0 5 (dk_at dksJ12_equals_0 2 rfl rfl)
theorem dJ12_equals_5 : decode cJ12_equals 5 = .ok (.iconst 1, 1) := dk_4 (dk_at dksJ12_equals_0 5 rfl rfl)
theorem dJ12_equals_6 : decode cJ12_equals 6 = .ok (.ireturn, 1) := dk_172 (dk_at dksJ12_equals_0 6 rfl rfl)
theorem dJ12_equals_7 : decode cJ12_equals 7 = .ok (.aload_n 1, 1) := dk_43 (dk_at dksJ12_equals_0 7 rfl rfl)
theorem dJ12_equals_8 : decode cJ12_equals 8 = .ok (.instanceof 10, 3) := dk_193 0 10 (dk_at dksJ12_equals_0 8 rfl rfl)
theorem dJ12_equals_11 : decode cJ12_equals 11 = .ok (.ifCond .eq 43, 3) := dk_153 0 43 (dk_at dksJ12_equals_0 11 rfl rfl)
theorem dJ12_equals_14 : decode cJ12_equals 14 = .ok (.aload_n 1, 1) := dk_43 (dk_at dksJ12_equals_0 14 rfl rfl)
theorem dJ12_equals_15 : decode cJ12_equals 15 = .ok (.checkcast 10, 3) := dk_192 0 10 (dk_at dksJ12_equals_0 15 rfl rfl)
theorem dJ12_equals_18 : decode cJ12_equals 18 = .ok (.astore_n 2, 1) := dk_77 (dk_at dksJ12_equals_0 18 rfl rfl)
theorem dJ12_equals_19 : decode cJ12_equals 19 = .ok (.getstatic 38, 3) := dk_178 0 38 (dk_at dksJ12_equals_0 19 rfl rfl)
theorem dJ12_equals_22 : decode cJ12_equals 22 = .ok (.ifCond .eq 14, 3) := dk_153 0 14 (dk_at dksJ12_equals_1 0 rfl rfl)
theorem dJ12_equals_25 : decode cJ12_equals 25 = .ok (.aload_n 0, 1) := dk_42 (dk_at dksJ12_equals_1 3 rfl rfl)
theorem dJ12_equals_26 : decode cJ12_equals 26 = .ok (.getfield 15, 3) := dk_180 0 15 (dk_at dksJ12_equals_1 4 rfl rfl)
theorem dJ12_equals_29 : decode cJ12_equals 29 = .ok (.aload_n 2, 1) := dk_44 (dk_at dksJ12_equals_1 7 rfl rfl)
theorem dJ12_equals_30 : decode cJ12_equals 30 = .ok (.getfield 15, 3) := dk_180 0 15 (dk_at dksJ12_equals_1 8 rfl rfl)
theorem dJ12_equals_33 : decode cJ12_equals 33 = .ok (.if_icmp .ne 21, 3) := dk_160 0 21 (dk_at dksJ12_equals_1 11 rfl rfl)
theorem dJ12_equals_36 : decode cJ12_equals 36 = .ok (.aload_n 0, 1) := dk_42 (dk_at dksJ12_equals_1 14 rfl rfl)
theorem dJ12_equals_37 : decode cJ12_equals 37 = .ok (.getfield 9, 3) := dk_180 0 9 (dk_at dksJ12_equals_1 15 rfl rfl)
theorem dJ12_equals_40 : decode cJ12_equals 40 = .ok (.aload_n 2, 1) := dk_44 (dk_at dksJ12_equals_1 18 rfl rfl)
theorem dJ12_equals_41 : decode cJ12_equals 41 = .ok (.getfield 9, 3) := dk_180 0 9 (dk_at dksJ12_equals_1 19 rfl rfl)
theorem dJ12_equals_44 : decode cJ12_equals 44 = .ok (.invokestatic 541, 3) := dk_184 2 29 (dk_at dksJ12_equals_2 0 rfl rfl)
theorem dJ12_equals_47 : decode cJ12_equals 47 = .ok (.ifCond .eq 7, 3) := dk_153 0 7 (dk_at dksJ12_equals_2 3 rfl rfl)
theorem dJ12_equals_50 : decode cJ12_equals 50 = .ok (.iconst 1, 1) := dk_4 (dk_at dksJ12_equals_2 6 rfl rfl)
theorem dJ12_equals_51 : decode cJ12_equals 51 = .ok (.goto 4, 3) := dk_167 0 4 (dk_at dksJ12_equals_2 7 rfl rfl)
theorem dJ12_equals_54 : decode cJ12_equals 54 = .ok (.iconst 0, 1) := dk_3 (dk_at dksJ12_equals_2 10 rfl rfl)
theorem dJ12_equals_55 : decode cJ12_equals 55 = .ok (.ireturn, 1) := dk_172 (dk_at dksJ12_equals_2 11 rfl rfl)
theorem q80 : (Jvm.Cond.initialized "java/lang/String") ∈ lw_all := lw_g (lw_at lw_m1 17 rfl) rfl
theorem q270 : (Jvm.Cond.selects "java/lang/String" ({ cls := "java/lang/Object", name := "getClass", desc := "()Ljava/lang/Class;" } : Jvm.MethodName) ({ cls := "java/lang/Object", name := "getClass", desc := "()Ljava/lang/Class;" } : Jvm.MethodName)) ∈ lw_all := lw_g (lw_at lw_m1 207 rfl) rfl
theorem q380 : (Jvm.Cond.laysStatic "java/lang/String" "COMPACT_STRINGS" "Z") ∈ lw_tbl := lw_at lw_m2 77 rfl
theorem q391 : (Jvm.Cond.fieldLink "java/lang/String" (1048 : Nat) "java/lang/AbstractStringBuilder" "maybeLatin1" "Z") ∈ lw_all := lw_g (lw_at lw_m2 88 rfl) rfl
theorem q704 : (Jvm.Cond.static ({ cls := "java/lang/String", name := "checkBoundsBeginEnd", desc := "(III)V" } : Jvm.MethodName)) ∈ lw_all := lw_g (lw_at lw_m3 161 rfl) rfl
theorem q705 : (Jvm.Cond.code ({ cls := "java/lang/String", name := "checkBoundsBeginEnd", desc := "(III)V" } : Jvm.MethodName) prog_26_method_158_code (3 : Nat) (Option.none : Option Jvm.ClassFile.FieldType)) ∈ lw_all := lw_g (lw_at lw_m3 162 rfl) rfl
theorem q706 : (Jvm.Cond.fieldLink "java/lang/String" (1053 : Nat) "jdk/internal/util/Preconditions" "SIOOBE_FORMATTER" "Ljava/util/function/BiFunction;") ∈ lw_all := lw_g (lw_at lw_m3 163 rfl) rfl
theorem q708 : (Jvm.Cond.methodLink "java/lang/String" (1062 : Nat) ({ cls := "jdk/internal/util/Preconditions", name := "checkFromToIndex", desc := "(IIILjava/util/function/BiFunction;)I" } : Jvm.MethodName)) ∈ lw_all := lw_g (lw_at lw_m3 165 rfl) rfl
theorem q721 : (Jvm.Cond.instanceMethod ({ cls := "java/lang/String", name := "length", desc := "()I" } : Jvm.MethodName)) ∈ lw_all := lw_g (lw_at lw_m3 178 rfl) rfl
theorem q722 : (Jvm.Cond.selects "java/lang/String" ({ cls := "java/lang/String", name := "length", desc := "()I" } : Jvm.MethodName) ({ cls := "java/lang/String", name := "length", desc := "()I" } : Jvm.MethodName)) ∈ lw_all := lw_g (lw_at lw_m3 179 rfl) rfl
theorem q723 : (Jvm.Cond.code ({ cls := "java/lang/String", name := "length", desc := "()I" } : Jvm.MethodName) prog_26_method_54_code (1 : Nat) (Option.some Jvm.ClassFile.FieldType.int)) ∈ lw_all := lw_g (lw_at lw_m3 180 rfl) rfl
theorem q724 : (Jvm.Cond.methodLink "java/lang/String" (335 : Nat) ({ cls := "java/lang/String", name := "coder", desc := "()B" } : Jvm.MethodName)) ∈ lw_all := lw_g (lw_at lw_m3 181 rfl) rfl
theorem q725 : (Jvm.Cond.instanceMethod ({ cls := "java/lang/String", name := "coder", desc := "()B" } : Jvm.MethodName)) ∈ lw_all := lw_g (lw_at lw_m3 182 rfl) rfl
theorem q726 : (Jvm.Cond.selects "java/lang/String" ({ cls := "java/lang/String", name := "coder", desc := "()B" } : Jvm.MethodName) ({ cls := "java/lang/String", name := "coder", desc := "()B" } : Jvm.MethodName)) ∈ lw_all := lw_g (lw_at lw_m3 183 rfl) rfl
theorem q727 : (Jvm.Cond.code ({ cls := "java/lang/String", name := "coder", desc := "()B" } : Jvm.MethodName) prog_26_method_152_code (1 : Nat) (Option.some Jvm.ClassFile.FieldType.byte)) ∈ lw_all := lw_g (lw_at lw_m3 184 rfl) rfl
theorem q728 : (Jvm.Cond.fieldLink "java/lang/String" (38 : Nat) "java/lang/String" "COMPACT_STRINGS" "Z") ∈ lw_all := lw_g (lw_at lw_m3 185 rfl) rfl
theorem q752 : (Jvm.Cond.static ({ cls := "java/lang/String", name := "checkBoundsOffCount", desc := "(III)I" } : Jvm.MethodName)) ∈ lw_all := lw_g (lw_at lw_m3 209 rfl) rfl
theorem q753 : (Jvm.Cond.code ({ cls := "java/lang/String", name := "checkBoundsOffCount", desc := "(III)I" } : Jvm.MethodName) prog_26_method_157_code (3 : Nat) (Option.some Jvm.ClassFile.FieldType.int)) ∈ lw_all := lw_g (lw_at lw_m3 210 rfl) rfl
theorem q754 : (Jvm.Cond.methodLink "java/lang/String" (1065 : Nat) ({ cls := "jdk/internal/util/Preconditions", name := "checkFromIndexSize", desc := "(IIILjava/util/function/BiFunction;)I" } : Jvm.MethodName)) ∈ lw_all := lw_g (lw_at lw_m3 211 rfl) rfl
theorem q758 : (Jvm.Cond.instanceMethod ({ cls := "java/lang/String", name := "getBytes", desc := "([BIB)V" } : Jvm.MethodName)) ∈ lw_all := lw_g (lw_at lw_m3 215 rfl) rfl
theorem q759 : (Jvm.Cond.selects "java/lang/String" ({ cls := "java/lang/String", name := "getBytes", desc := "([BIB)V" } : Jvm.MethodName) ({ cls := "java/lang/String", name := "getBytes", desc := "([BIB)V" } : Jvm.MethodName)) ∈ lw_all := lw_g (lw_at lw_m3 216 rfl) rfl
theorem q760 : (Jvm.Cond.code ({ cls := "java/lang/String", name := "getBytes", desc := "([BIB)V" } : Jvm.MethodName) prog_26_method_147_code (4 : Nat) (Option.none : Option Jvm.ClassFile.FieldType)) ∈ lw_all := lw_g (lw_at lw_m3 217 rfl) rfl
theorem q761 : (Jvm.Cond.methodLink "java/lang/String" (212 : Nat) ({ cls := "java/lang/System", name := "arraycopy", desc := "(Ljava/lang/Object;ILjava/lang/Object;II)V" } : Jvm.MethodName)) ∈ lw_all := lw_g (lw_at lw_m3 218 rfl) rfl
theorem q762 : (Jvm.Cond.methodLink "java/lang/String" (106 : Nat) ({ cls := "java/lang/StringLatin1", name := "inflate", desc := "([BI[BII)V" } : Jvm.MethodName)) ∈ lw_all := lw_g (lw_at lw_m3 219 rfl) rfl
theorem q769 : (Jvm.Cond.instantiable "java/lang/String" (4 : Nat)) ∈ lw_all := lw_g (lw_at lw_m3 226 rfl) rfl
theorem q771 : (Jvm.Cond.instanceMethod ({ cls := "java/lang/String", name := "<init>", desc := "(Ljava/lang/StringBuilder;)V" } : Jvm.MethodName)) ∈ lw_all := lw_g (lw_at lw_m3 228 rfl) rfl
theorem q772 : (Jvm.Cond.code ({ cls := "java/lang/String", name := "<init>", desc := "(Ljava/lang/StringBuilder;)V" } : Jvm.MethodName) prog_26_method_53_code (2 : Nat) (Option.none : Option Jvm.ClassFile.FieldType)) ∈ lw_all := lw_g (lw_at lw_m3 229 rfl) rfl
theorem q773 : (Jvm.Cond.methodLink "java/lang/String" (489 : Nat) ({ cls := "java/lang/String", name := "<init>", desc := "(Ljava/lang/AbstractStringBuilder;Ljava/lang/Void;)V" } : Jvm.MethodName)) ∈ lw_all := lw_g (lw_at lw_m3 230 rfl) rfl
theorem q774 : (Jvm.Cond.instanceMethod ({ cls := "java/lang/String", name := "<init>", desc := "(Ljava/lang/AbstractStringBuilder;Ljava/lang/Void;)V" } : Jvm.MethodName)) ∈ lw_all := lw_g (lw_at lw_m3 231 rfl) rfl
theorem q775 : (Jvm.Cond.code ({ cls := "java/lang/String", name := "<init>", desc := "(Ljava/lang/AbstractStringBuilder;Ljava/lang/Void;)V" } : Jvm.MethodName) prog_26_method_150_code (5 : Nat) (Option.none : Option Jvm.ClassFile.FieldType)) ∈ lw_all := lw_g (lw_at lw_m3 232 rfl) rfl
theorem q776 : (Jvm.Cond.methodLink "java/lang/String" (1 : Nat) ({ cls := "java/lang/Object", name := "<init>", desc := "()V" } : Jvm.MethodName)) ∈ lw_all := lw_g (lw_at lw_m3 233 rfl) rfl
theorem q777 : (Jvm.Cond.methodLink "java/lang/String" (552 : Nat) ({ cls := "java/lang/AbstractStringBuilder", name := "getValue", desc := "()[B" } : Jvm.MethodName)) ∈ lw_all := lw_g (lw_at lw_m3 234 rfl) rfl
theorem q782 : (Jvm.Cond.methodLink "java/lang/String" (549 : Nat) ({ cls := "java/lang/AbstractStringBuilder", name := "length", desc := "()I" } : Jvm.MethodName)) ∈ lw_all := lw_g (lw_at lw_m3 239 rfl) rfl
theorem q790 : (Jvm.Cond.methodLink "java/lang/String" (1047 : Nat) ({ cls := "java/lang/AbstractStringBuilder", name := "isLatin1", desc := "()Z" } : Jvm.MethodName)) ∈ lw_all := lw_g (lw_at lw_m4 7 rfl) rfl
theorem q791 : (Jvm.Cond.methodLink "java/lang/String" (54 : Nat) ({ cls := "java/util/Arrays", name := "copyOfRange", desc := "([BII)[B" } : Jvm.MethodName)) ∈ lw_all := lw_g (lw_at lw_m4 8 rfl) rfl
theorem q800 : (Jvm.Cond.methodLink "java/lang/String" (1051 : Nat) ({ cls := "java/lang/StringUTF16", name := "compress", desc := "([BII)[B" } : Jvm.MethodName)) ∈ lw_all := lw_g (lw_at lw_m4 17 rfl) rfl
theorem q810 : (Jvm.Cond.methodLink "java/lang/String" (47 : Nat) ({ cls := "java/lang/StringUTF16", name := "coderFromArrayLen", desc := "([BI)B" } : Jvm.MethodName)) ∈ lw_all := lw_g (lw_at lw_m4 27 rfl) rfl
theorem q813 : (Jvm.Cond.fieldLink "java/lang/String" (9 : Nat) "java/lang/String" "value" "[B") ∈ lw_all := lw_g (lw_at lw_m4 30 rfl) rfl
theorem q814 : (Jvm.Cond.fieldLink "java/lang/String" (15 : Nat) "java/lang/String" "coder" "B") ∈ lw_all := lw_g (lw_at lw_m4 31 rfl) rfl
theorem q815 : (Jvm.Cond.fieldLink "java/lang/String" (19 : Nat) "java/lang/String" "hash" "I") ∈ lw_all := lw_g (lw_at lw_m4 32 rfl) rfl
theorem q816 : (Jvm.Cond.fieldLink "java/lang/String" (23 : Nat) "java/lang/String" "hashIsZero" "Z") ∈ lw_all := lw_g (lw_at lw_m4 33 rfl) rfl
theorem q817 : (Jvm.Cond.laysFinal "java/lang/String" "java/lang/String" "value" "[B") ∈ lw_all := lw_g (lw_at lw_m4 34 rfl) rfl
theorem q818 : (Jvm.Cond.soleField "java/lang/String" "value") ∈ lw_all := lw_g (lw_at lw_m4 35 rfl) rfl
theorem q819 : (Jvm.Cond.laysFinal "java/lang/String" "java/lang/String" "coder" "B") ∈ lw_all := lw_g (lw_at lw_m4 36 rfl) rfl
theorem q820 : (Jvm.Cond.soleField "java/lang/String" "coder") ∈ lw_all := lw_g (lw_at lw_m4 37 rfl) rfl
theorem q821 : (Jvm.Cond.lays "java/lang/String" "java/lang/String" "hash" "I") ∈ lw_all := lw_g (lw_at lw_m4 38 rfl) rfl
theorem q822 : (Jvm.Cond.soleField "java/lang/String" "hash") ∈ lw_all := lw_g (lw_at lw_m4 39 rfl) rfl
theorem q823 : (Jvm.Cond.lays "java/lang/String" "java/lang/String" "hashIsZero" "Z") ∈ lw_all := lw_g (lw_at lw_m4 40 rfl) rfl
theorem q824 : (Jvm.Cond.soleField "java/lang/String" "hashIsZero") ∈ lw_all := lw_g (lw_at lw_m4 41 rfl) rfl
theorem q825 : (Jvm.Cond.superclass "java/lang/String" "java/lang/Object") ∈ lw_all := lw_g (lw_at lw_m4 42 rfl) rfl
theorem q1447 : (Jvm.Cond.static ({ cls := "java/lang/String", name := "checkIndex", desc := "(II)V" } : Jvm.MethodName)) ∈ lw_all := lw_g (lw_at lw_m6 184 rfl) rfl
theorem q1448 : (Jvm.Cond.code ({ cls := "java/lang/String", name := "checkIndex", desc := "(II)V" } : Jvm.MethodName) prog_26_method_155_code (2 : Nat) (Option.none : Option Jvm.ClassFile.FieldType)) ∈ lw_all := lw_g (lw_at lw_m6 185 rfl) rfl
theorem q1449 : (Jvm.Cond.methodLink "java/lang/String" (1059 : Nat) ({ cls := "jdk/internal/util/Preconditions", name := "checkIndex", desc := "(IILjava/util/function/BiFunction;)I" } : Jvm.MethodName)) ∈ lw_all := lw_g (lw_at lw_m6 186 rfl) rfl
theorem q1504 : (Jvm.Cond.castable "java/lang/String" "java/lang/CharSequence") ∈ lw_tbl := lw_at lw_m7 1 rfl
theorem q1505 : (Jvm.Cond.selects "java/lang/String" ({ cls := "java/lang/CharSequence", name := "length", desc := "()I" } : Jvm.MethodName) ({ cls := "java/lang/String", name := "length", desc := "()I" } : Jvm.MethodName)) ∈ lw_all := lw_g (lw_at lw_m7 2 rfl) rfl
theorem q1506 : (Jvm.Cond.unhidden "java/lang/String" "length" "()I") ∈ lw_tbl := lw_at lw_m7 3 rfl
theorem q1507 : (Jvm.Cond.publicMethod ({ cls := "java/lang/String", name := "length", desc := "()I" } : Jvm.MethodName)) ∈ lw_tbl := lw_at lw_m7 4 rfl
theorem q1516 : (Jvm.Cond.selects "java/lang/String" ({ cls := "java/lang/CharSequence", name := "charAt", desc := "(I)C" } : Jvm.MethodName) ({ cls := "java/lang/String", name := "charAt", desc := "(I)C" } : Jvm.MethodName)) ∈ lw_all := lw_g (lw_at lw_m7 13 rfl) rfl
theorem q1517 : (Jvm.Cond.unhidden "java/lang/String" "charAt" "(I)C") ∈ lw_tbl := lw_at lw_m7 14 rfl
theorem q1518 : (Jvm.Cond.instanceMethod ({ cls := "java/lang/String", name := "charAt", desc := "(I)C" } : Jvm.MethodName)) ∈ lw_all := lw_g (lw_at lw_m7 15 rfl) rfl
theorem q1519 : (Jvm.Cond.publicMethod ({ cls := "java/lang/String", name := "charAt", desc := "(I)C" } : Jvm.MethodName)) ∈ lw_tbl := lw_at lw_m7 16 rfl
theorem q1520 : (Jvm.Cond.code ({ cls := "java/lang/String", name := "charAt", desc := "(I)C" } : Jvm.MethodName) prog_26_method_56_code (2 : Nat) (Option.some Jvm.ClassFile.FieldType.char)) ∈ lw_all := lw_g (lw_at lw_m7 17 rfl) rfl
theorem q1521 : (Jvm.Cond.methodLink "java/lang/String" (492 : Nat) ({ cls := "java/lang/String", name := "isLatin1", desc := "()Z" } : Jvm.MethodName)) ∈ lw_all := lw_g (lw_at lw_m7 18 rfl) rfl
theorem q1522 : (Jvm.Cond.instanceMethod ({ cls := "java/lang/String", name := "isLatin1", desc := "()Z" } : Jvm.MethodName)) ∈ lw_all := lw_g (lw_at lw_m7 19 rfl) rfl
theorem q1523 : (Jvm.Cond.selects "java/lang/String" ({ cls := "java/lang/String", name := "isLatin1", desc := "()Z" } : Jvm.MethodName) ({ cls := "java/lang/String", name := "isLatin1", desc := "()Z" } : Jvm.MethodName)) ∈ lw_all := lw_g (lw_at lw_m7 20 rfl) rfl
theorem q1524 : (Jvm.Cond.code ({ cls := "java/lang/String", name := "isLatin1", desc := "()Z" } : Jvm.MethodName) prog_26_method_154_code (1 : Nat) (Option.some Jvm.ClassFile.FieldType.boolean)) ∈ lw_all := lw_g (lw_at lw_m7 21 rfl) rfl
theorem q1525 : (Jvm.Cond.methodLink "java/lang/String" (495 : Nat) ({ cls := "java/lang/StringLatin1", name := "charAt", desc := "([BI)C" } : Jvm.MethodName)) ∈ lw_all := lw_g (lw_at lw_m7 22 rfl) rfl
theorem q1529 : (Jvm.Cond.methodLink "java/lang/String" (498 : Nat) ({ cls := "java/lang/StringUTF16", name := "charAt", desc := "([BI)C" } : Jvm.MethodName)) ∈ lw_all := lw_g (lw_at lw_m7 26 rfl) rfl
theorem q1594 : (Jvm.Cond.instanceMethod ({ cls := "java/lang/String", name := "hashCode", desc := "()I" } : Jvm.MethodName)) ∈ lw_all := lw_g (lw_at lw_m7 91 rfl) rfl
theorem q1595 : (Jvm.Cond.selects "java/lang/String" ({ cls := "java/lang/String", name := "hashCode", desc := "()I" } : Jvm.MethodName) ({ cls := "java/lang/String", name := "hashCode", desc := "()I" } : Jvm.MethodName)) ∈ lw_all := lw_g (lw_at lw_m7 92 rfl) rfl
theorem q1596 : (Jvm.Cond.code ({ cls := "java/lang/String", name := "hashCode", desc := "()I" } : Jvm.MethodName) prog_26_method_78_code (2 : Nat) (Option.some Jvm.ClassFile.FieldType.int)) ∈ lw_all := lw_g (lw_at lw_m7 93 rfl) rfl
theorem q1597 : (Jvm.Cond.methodLink "java/lang/String" (628 : Nat) ({ cls := "java/lang/StringLatin1", name := "hashCode", desc := "([B)I" } : Jvm.MethodName)) ∈ lw_all := lw_g (lw_at lw_m7 94 rfl) rfl
theorem q1638 : (Jvm.Cond.methodLink "java/lang/String" (632 : Nat) ({ cls := "java/lang/StringUTF16", name := "hashCode", desc := "([B)I" } : Jvm.MethodName)) ∈ lw_all := lw_g (lw_at lw_m7 135 rfl) rfl
theorem q1643 : (Jvm.Cond.instanceMethod ({ cls := "java/lang/String", name := "equals", desc := "(Ljava/lang/Object;)Z" } : Jvm.MethodName)) ∈ lw_all := lw_g (lw_at lw_m7 140 rfl) rfl
theorem q1644 : (Jvm.Cond.selects "java/lang/String" ({ cls := "java/lang/String", name := "equals", desc := "(Ljava/lang/Object;)Z" } : Jvm.MethodName) ({ cls := "java/lang/String", name := "equals", desc := "(Ljava/lang/Object;)Z" } : Jvm.MethodName)) ∈ lw_all := lw_g (lw_at lw_m7 141 rfl) rfl
theorem q1645 : (Jvm.Cond.code ({ cls := "java/lang/String", name := "equals", desc := "(Ljava/lang/Object;)Z" } : Jvm.MethodName) prog_26_method_66_code (3 : Nat) (Option.some Jvm.ClassFile.FieldType.boolean)) ∈ lw_all := lw_g (lw_at lw_m7 142 rfl) rfl
theorem q1646 : (Jvm.Cond.classLink "java/lang/String" (10 : Nat) "java/lang/String") ∈ lw_all := lw_g (lw_at lw_m7 143 rfl) rfl
theorem q1647 : (Jvm.Cond.methodLink "java/lang/String" (541 : Nat) ({ cls := "java/lang/StringLatin1", name := "equals", desc := "([B[B)Z" } : Jvm.MethodName)) ∈ lw_all := lw_g (lw_at lw_m7 144 rfl) rfl
theorem q2248 : (Jvm.Cond.selects "java/lang/String" ({ cls := "java/lang/String", name := "charAt", desc := "(I)C" } : Jvm.MethodName) ({ cls := "java/lang/String", name := "charAt", desc := "(I)C" } : Jvm.MethodName)) ∈ lw_all := lw_g (lw_at lw_m10 25 rfl) rfl
theorem q2252 : (Jvm.Cond.castable "java/lang/String" "java/lang/Object") ∈ lw_tbl := lw_at lw_m10 29 rfl
theorem in_J12 : ∀ w ∈ wsJ120, w ∈ lw_all := lw_in wsJ120 [817, 819, 821, 823] (by decide +kernel) (by decide +kernel)

/-! java/lang/StringUTF16 -/
set_option maxRecDepth 100000
def RJ13 : String := "java/lang/StringUTF16"
abbrev cJ13_newBytesFor : ByteArray := prog_29_method_2_code
def yJ13_newBytesFor : MethodName := ⟨RJ13, "newBytesFor", "(I)[B"⟩
def dkwJ13_newBytesFor_0 : List UInt8 := [26, 184, 0, 11, 188, 8, 176]
abbrev dktJ13_newBytesFor_0 : List UInt8 := dkwJ13_newBytesFor_0 ++ []
theorem dksJ13_newBytesFor_0 : cJ13_newBytesFor.data.toList.drop 0 = dktJ13_newBytesFor_0 := by decide +kernel
theorem dJ13_newBytesFor_0 : decode cJ13_newBytesFor 0 = .ok (.iload_n 0, 1) := dk_26 (dk_at dksJ13_newBytesFor_0 0 rfl rfl)
theorem dJ13_newBytesFor_1 : decode cJ13_newBytesFor 1 = .ok (.invokestatic 11, 3) := dk_184 0 11 (dk_at dksJ13_newBytesFor_0 1 rfl rfl)
theorem dJ13_newBytesFor_4 : decode cJ13_newBytesFor 4 = .ok (.newarray .byte, 2) := dk_188_8 (dk_at dksJ13_newBytesFor_0 4 rfl rfl)
theorem dJ13_newBytesFor_6 : decode cJ13_newBytesFor 6 = .ok (.areturn, 1) := dk_176 (dk_at dksJ13_newBytesFor_0 6 rfl rfl)
abbrev cJ13_newBytesLength : ByteArray := prog_29_method_3_code
def yJ13_newBytesLength : MethodName := ⟨RJ13, "newBytesLength", "(I)I"⟩
def dkwJ13_newBytesLength_2 : List UInt8 := [182, 0, 32, 182, 0, 37, 183, 0, 41, 191, 26, 4, 120, 172]
abbrev dktJ13_newBytesLength_2 : List UInt8 := dkwJ13_newBytesLength_2 ++ []
def dkwJ13_newBytesLength_1 : List UInt8 := [187, 0, 23, 89, 183, 0, 25, 18, 26, 182, 0, 28, 26, 182, 0, 32, 18, 35, 182, 0, 28, 18, 20]
abbrev dktJ13_newBytesLength_1 : List UInt8 := dkwJ13_newBytesLength_1 ++ dktJ13_newBytesLength_2
def dkwJ13_newBytesLength_0 : List UInt8 := [26, 156, 0, 11, 187, 0, 17, 89, 183, 0, 19, 191, 26, 18, 20, 161, 0, 40, 187, 0, 21, 89]
abbrev dktJ13_newBytesLength_0 : List UInt8 := dkwJ13_newBytesLength_0 ++ dktJ13_newBytesLength_1
theorem dksJ13_newBytesLength_0 : cJ13_newBytesLength.data.toList.drop 0 = dktJ13_newBytesLength_0 := by decide +kernel
theorem dksJ13_newBytesLength_1 : cJ13_newBytesLength.data.toList.drop 22 = dktJ13_newBytesLength_1 := dk_seg dksJ13_newBytesLength_0 22 rfl rfl
theorem dksJ13_newBytesLength_2 : cJ13_newBytesLength.data.toList.drop 45 = dktJ13_newBytesLength_2 := dk_seg dksJ13_newBytesLength_1 23 rfl rfl
theorem dJ13_newBytesLength_0 : decode cJ13_newBytesLength 0 = .ok (.iload_n 0, 1) := dk_26 (dk_at dksJ13_newBytesLength_0 0 rfl rfl)
theorem dJ13_newBytesLength_1 : decode cJ13_newBytesLength 1 = .ok (.ifCond .ge 11, 3) := dk_156 0 11 (dk_at dksJ13_newBytesLength_0 1 rfl rfl)
theorem dJ13_newBytesLength_4 : decode cJ13_newBytesLength 4 = .ok (.new 17, 3) := dk_187 0 17 (dk_at dksJ13_newBytesLength_0 4 rfl rfl)
theorem dJ13_newBytesLength_7 : decode cJ13_newBytesLength 7 = .ok (.dup, 1) := dk_89 (dk_at dksJ13_newBytesLength_0 7 rfl rfl)
theorem dJ13_newBytesLength_8 : decode cJ13_newBytesLength 8 = .ok (.invokespecial 19, 3) := dk_183 0 19 (dk_at dksJ13_newBytesLength_0 8 rfl rfl)
theorem dJ13_newBytesLength_11 : decode cJ13_newBytesLength 11 = .ok (.athrow, 1) := dk_191 (dk_at dksJ13_newBytesLength_0 11 rfl rfl)
theorem dJ13_newBytesLength_12 : decode cJ13_newBytesLength 12 = .ok (.iload_n 0, 1) := dk_26 (dk_at dksJ13_newBytesLength_0 12 rfl rfl)
theorem dJ13_newBytesLength_13 : decode cJ13_newBytesLength 13 = .ok (.ldc 20, 2) := dk_18 20 (dk_at dksJ13_newBytesLength_0 13 rfl rfl)
theorem dJ13_newBytesLength_15 : decode cJ13_newBytesLength 15 = .ok (.if_icmp .lt 40, 3) := dk_161 0 40 (dk_at dksJ13_newBytesLength_0 15 rfl rfl)
theorem dJ13_newBytesLength_18 : decode cJ13_newBytesLength 18 = .ok (.new 21, 3) := dk_187 0 21 (dk_at dksJ13_newBytesLength_0 18 rfl rfl)
theorem dJ13_newBytesLength_21 : decode cJ13_newBytesLength 21 = .ok (.dup, 1) := dk_89 (dk_at dksJ13_newBytesLength_0 21 rfl rfl)
theorem dJ13_newBytesLength_22 : decode cJ13_newBytesLength 22 = .ok (.new 23, 3) := dk_187 0 23 (dk_at dksJ13_newBytesLength_1 0 rfl rfl)
theorem dJ13_newBytesLength_25 : decode cJ13_newBytesLength 25 = .ok (.dup, 1) := dk_89 (dk_at dksJ13_newBytesLength_1 3 rfl rfl)
theorem dJ13_newBytesLength_26 : decode cJ13_newBytesLength 26 = .ok (.invokespecial 25, 3) := dk_183 0 25 (dk_at dksJ13_newBytesLength_1 4 rfl rfl)
theorem dJ13_newBytesLength_29 : decode cJ13_newBytesLength 29 = .ok (.ldc 26, 2) := dk_18 26 (dk_at dksJ13_newBytesLength_1 7 rfl rfl)
theorem dJ13_newBytesLength_31 : decode cJ13_newBytesLength 31 = .ok (.invokevirtual 28, 3) := dk_182 0 28 (dk_at dksJ13_newBytesLength_1 9 rfl rfl)
theorem dJ13_newBytesLength_34 : decode cJ13_newBytesLength 34 = .ok (.iload_n 0, 1) := dk_26 (dk_at dksJ13_newBytesLength_1 12 rfl rfl)
theorem dJ13_newBytesLength_35 : decode cJ13_newBytesLength 35 = .ok (.invokevirtual 32, 3) := dk_182 0 32 (dk_at dksJ13_newBytesLength_1 13 rfl rfl)
theorem dJ13_newBytesLength_38 : decode cJ13_newBytesLength 38 = .ok (.ldc 35, 2) := dk_18 35 (dk_at dksJ13_newBytesLength_1 16 rfl rfl)
theorem dJ13_newBytesLength_40 : decode cJ13_newBytesLength 40 = .ok (.invokevirtual 28, 3) := dk_182 0 28 (dk_at dksJ13_newBytesLength_1 18 rfl rfl)
theorem dJ13_newBytesLength_43 : decode cJ13_newBytesLength 43 = .ok (.ldc 20, 2) := dk_18 20 (dk_at dksJ13_newBytesLength_1 21 rfl rfl)
theorem dJ13_newBytesLength_45 : decode cJ13_newBytesLength 45 = .ok (.invokevirtual 32, 3) := dk_182 0 32 (dk_at dksJ13_newBytesLength_2 0 rfl rfl)
theorem dJ13_newBytesLength_48 : decode cJ13_newBytesLength 48 = .ok (.invokevirtual 37, 3) := dk_182 0 37 (dk_at dksJ13_newBytesLength_2 3 rfl rfl)
theorem dJ13_newBytesLength_51 : decode cJ13_newBytesLength 51 = .ok (.invokespecial 41, 3) := dk_183 0 41 (dk_at dksJ13_newBytesLength_2 6 rfl rfl)
theorem dJ13_newBytesLength_54 : decode cJ13_newBytesLength 54 = .ok (.athrow, 1) := dk_191 (dk_at dksJ13_newBytesLength_2 9 rfl rfl)
theorem dJ13_newBytesLength_55 : decode cJ13_newBytesLength 55 = .ok (.iload_n 0, 1) := dk_26 (dk_at dksJ13_newBytesLength_2 10 rfl rfl)
theorem dJ13_newBytesLength_56 : decode cJ13_newBytesLength 56 = .ok (.iconst 1, 1) := dk_4 (dk_at dksJ13_newBytesLength_2 11 rfl rfl)
theorem dJ13_newBytesLength_57 : decode cJ13_newBytesLength 57 = .ok (.ishl, 1) := dk_120 (dk_at dksJ13_newBytesLength_2 12 rfl rfl)
theorem dJ13_newBytesLength_58 : decode cJ13_newBytesLength 58 = .ok (.ireturn, 1) := dk_172 (dk_at dksJ13_newBytesLength_2 13 rfl rfl)
abbrev cJ13_putCharsAt : ByteArray := prog_29_method_81_code
def yJ13_putCharsAt : MethodName := ⟨RJ13, "putCharsAt", "([BICCCC)I"⟩
def dkwJ13_putCharsAt_3 : List UInt8 := [21, 6, 172]
abbrev dktJ13_putCharsAt_3 : List UInt8 := dkwJ13_putCharsAt_3 ++ []
def dkwJ13_putCharsAt_2 : List UInt8 := [184, 0, 111, 178, 0, 44, 154, 0, 17, 27, 21, 6, 159, 0, 11, 187, 0, 52, 89, 183, 0, 66, 191]
abbrev dktJ13_putCharsAt_2 : List UInt8 := dkwJ13_putCharsAt_2 ++ dktJ13_putCharsAt_3
def dkwJ13_putCharsAt_1 : List UInt8 := [132, 1, 1, 29, 184, 0, 111, 42, 27, 132, 1, 1, 21, 4, 184, 0, 111, 42, 27, 132, 1, 1, 21, 5]
abbrev dktJ13_putCharsAt_1 : List UInt8 := dkwJ13_putCharsAt_1 ++ dktJ13_putCharsAt_2
def dkwJ13_putCharsAt_0 : List UInt8 := [27, 7, 96, 54, 6, 27, 21, 6, 42, 184, 0, 96, 42, 27, 132, 1, 1, 28, 184, 0, 111, 42, 27]
abbrev dktJ13_putCharsAt_0 : List UInt8 := dkwJ13_putCharsAt_0 ++ dktJ13_putCharsAt_1
theorem dksJ13_putCharsAt_0 : cJ13_putCharsAt.data.toList.drop 0 = dktJ13_putCharsAt_0 := by decide +kernel
theorem dksJ13_putCharsAt_1 : cJ13_putCharsAt.data.toList.drop 23 = dktJ13_putCharsAt_1 := dk_seg dksJ13_putCharsAt_0 23 rfl rfl
theorem dksJ13_putCharsAt_2 : cJ13_putCharsAt.data.toList.drop 47 = dktJ13_putCharsAt_2 := dk_seg dksJ13_putCharsAt_1 24 rfl rfl
theorem dksJ13_putCharsAt_3 : cJ13_putCharsAt.data.toList.drop 70 = dktJ13_putCharsAt_3 := dk_seg dksJ13_putCharsAt_2 23 rfl rfl
theorem dJ13_putCharsAt_0 : decode cJ13_putCharsAt 0 = .ok (.iload_n 1, 1) := dk_27 (dk_at dksJ13_putCharsAt_0 0 rfl rfl)
theorem dJ13_putCharsAt_1 : decode cJ13_putCharsAt 1 = .ok (.iconst 4, 1) := dk_7 (dk_at dksJ13_putCharsAt_0 1 rfl rfl)
theorem dJ13_putCharsAt_2 : decode cJ13_putCharsAt 2 = .ok (.iadd, 1) := dk_96 (dk_at dksJ13_putCharsAt_0 2 rfl rfl)
theorem dJ13_putCharsAt_3 : decode cJ13_putCharsAt 3 = .ok (.istore 6, 2) := dk_54 6 (dk_at dksJ13_putCharsAt_0 3 rfl rfl)
theorem dJ13_putCharsAt_5 : decode cJ13_putCharsAt 5 = .ok (.iload_n 1, 1) := dk_27 (dk_at dksJ13_putCharsAt_0 5 rfl rfl)
theorem dJ13_putCharsAt_6 : decode cJ13_putCharsAt 6 = .ok (.iload 6, 2) := dk_21 6 (dk_at dksJ13_putCharsAt_0 6 rfl rfl)
theorem dJ13_putCharsAt_8 : decode cJ13_putCharsAt 8 = .ok (.aload_n 0, 1) := dk_42 (dk_at dksJ13_putCharsAt_0 8 rfl rfl)
theorem dJ13_putCharsAt_9 : decode cJ13_putCharsAt 9 = .ok (.invokestatic 96, 3) := dk_184 0 96 (dk_at dksJ13_putCharsAt_0 9 rfl rfl)
theorem dJ13_putCharsAt_12 : decode cJ13_putCharsAt 12 = .ok (.aload_n 0, 1) := dk_42 (dk_at dksJ13_putCharsAt_0 12 rfl rfl)
theorem dJ13_putCharsAt_13 : decode cJ13_putCharsAt 13 = .ok (.iload_n 1, 1) := dk_27 (dk_at dksJ13_putCharsAt_0 13 rfl rfl)
theorem dJ13_putCharsAt_14 : decode cJ13_putCharsAt 14 = .ok (.iinc 1 1, 3) := dk_132 1 1 (dk_at dksJ13_putCharsAt_0 14 rfl rfl)
theorem dJ13_putCharsAt_17 : decode cJ13_putCharsAt 17 = .ok (.iload_n 2, 1) := dk_28 (dk_at dksJ13_putCharsAt_0 17 rfl rfl)
theorem dJ13_putCharsAt_18 : decode cJ13_putCharsAt 18 = .ok (.invokestatic 111, 3) := dk_184 0 111 (dk_at dksJ13_putCharsAt_0 18 rfl rfl)
theorem dJ13_putCharsAt_21 : decode cJ13_putCharsAt 21 = .ok (.aload_n 0, 1) := dk_42 (dk_at dksJ13_putCharsAt_0 21 rfl rfl)
theorem dJ13_putCharsAt_22 : decode cJ13_putCharsAt 22 = .ok (.iload_n 1, 1) := dk_27 (dk_at dksJ13_putCharsAt_0 22 rfl rfl)
theorem dJ13_putCharsAt_23 : decode cJ13_putCharsAt 23 = .ok (.iinc 1 1, 3) := dk_132 1 1 (dk_at dksJ13_putCharsAt_1 0 rfl rfl)
theorem dJ13_putCharsAt_26 : decode cJ13_putCharsAt 26 = .ok (.iload_n 3, 1) := dk_29 (dk_at dksJ13_putCharsAt_1 3 rfl rfl)
theorem dJ13_putCharsAt_27 : decode cJ13_putCharsAt 27 = .ok (.invokestatic 111, 3) := dk_184 0 111 (dk_at dksJ13_putCharsAt_1 4 rfl rfl)
theorem dJ13_putCharsAt_30 : decode cJ13_putCharsAt 30 = .ok (.aload_n 0, 1) := dk_42 (dk_at dksJ13_putCharsAt_1 7 rfl rfl)
theorem dJ13_putCharsAt_31 : decode cJ13_putCharsAt 31 = .ok (.iload_n 1, 1) := dk_27 (dk_at dksJ13_putCharsAt_1 8 rfl rfl)
theorem dJ13_putCharsAt_32 : decode cJ13_putCharsAt 32 = .ok (.iinc 1 1, 3) := dk_132 1 1 (dk_at dksJ13_putCharsAt_1 9 rfl rfl)
theorem dJ13_putCharsAt_35 : decode cJ13_putCharsAt 35 = .ok (.iload 4, 2) := dk_21 4 (dk_at dksJ13_putCharsAt_1 12 rfl rfl)
theorem dJ13_putCharsAt_37 : decode cJ13_putCharsAt 37 = .ok (.invokestatic 111, 3) := dk_184 0 111 (dk_at dksJ13_putCharsAt_1 14 rfl rfl)
theorem dJ13_putCharsAt_40 : decode cJ13_putCharsAt 40 = .ok (.aload_n 0, 1) := dk_42 (dk_at dksJ13_putCharsAt_1 17 rfl rfl)
theorem dJ13_putCharsAt_41 : decode cJ13_putCharsAt 41 = .ok (.iload_n 1, 1) := dk_27 (dk_at dksJ13_putCharsAt_1 18 rfl rfl)
theorem dJ13_putCharsAt_42 : decode cJ13_putCharsAt 42 = .ok (.iinc 1 1, 3) := dk_132 1 1 (dk_at dksJ13_putCharsAt_1 19 rfl rfl)
theorem dJ13_putCharsAt_45 : decode cJ13_putCharsAt 45 = .ok (.iload 5, 2) := dk_21 5 (dk_at dksJ13_putCharsAt_1 22 rfl rfl)
theorem dJ13_putCharsAt_47 : decode cJ13_putCharsAt 47 = .ok (.invokestatic 111, 3) := dk_184 0 111 (dk_at dksJ13_putCharsAt_2 0 rfl rfl)
theorem dJ13_putCharsAt_50 : decode cJ13_putCharsAt 50 = .ok (.getstatic 44, 3) := dk_178 0 44 (dk_at dksJ13_putCharsAt_2 3 rfl rfl)
theorem dJ13_putCharsAt_53 : decode cJ13_putCharsAt 53 = .ok (.ifCond .ne 17, 3) := dk_154 0 17 (dk_at dksJ13_putCharsAt_2 6 rfl rfl)
theorem dJ13_putCharsAt_56 : decode cJ13_putCharsAt 56 = .ok (.iload_n 1, 1) := dk_27 (dk_at dksJ13_putCharsAt_2 9 rfl rfl)
theorem dJ13_putCharsAt_57 : decode cJ13_putCharsAt 57 = .ok (.iload 6, 2) := dk_21 6 (dk_at dksJ13_putCharsAt_2 10 rfl rfl)
theorem dJ13_putCharsAt_59 : decode cJ13_putCharsAt 59 = .ok (.if_icmp .eq 11, 3) := dk_159 0 11 (dk_at dksJ13_putCharsAt_2 12 rfl rfl)
theorem dJ13_putCharsAt_62 : decode cJ13_putCharsAt 62 = .ok (.new 52, 3) := dk_187 0 52 (dk_at dksJ13_putCharsAt_2 15 rfl rfl)
theorem dJ13_putCharsAt_65 : decode cJ13_putCharsAt 65 = .ok (.dup, 1) := dk_89 (dk_at dksJ13_putCharsAt_2 18 rfl rfl)
theorem dJ13_putCharsAt_66 : decode cJ13_putCharsAt 66 = .ok (.invokespecial 66, 3) := dk_183 0 66 (dk_at dksJ13_putCharsAt_2 19 rfl rfl)
theorem dJ13_putCharsAt_69 : decode cJ13_putCharsAt 69 = .ok (.athrow, 1) := dk_191 (dk_at dksJ13_putCharsAt_2 22 rfl rfl)
theorem dJ13_putCharsAt_70 : decode cJ13_putCharsAt 70 = .ok (.iload 6, 2) := dk_21 6 (dk_at dksJ13_putCharsAt_3 0 rfl rfl)
theorem dJ13_putCharsAt_72 : decode cJ13_putCharsAt 72 = .ok (.ireturn, 1) := dk_172 (dk_at dksJ13_putCharsAt_3 2 rfl rfl)
abbrev cJ13_checkBoundsBeginEnd : ByteArray := prog_29_method_93_code
def yJ13_checkBoundsBeginEnd : MethodName := ⟨RJ13, "checkBoundsBeginEnd", "(II[B)V"⟩
def dkwJ13_checkBoundsBeginEnd_0 : List UInt8 := [26, 27, 44, 184, 0, 48, 184, 0, 241, 177]
abbrev dktJ13_checkBoundsBeginEnd_0 : List UInt8 := dkwJ13_checkBoundsBeginEnd_0 ++ []
theorem dksJ13_checkBoundsBeginEnd_0 : cJ13_checkBoundsBeginEnd.data.toList.drop 0 = dktJ13_checkBoundsBeginEnd_0 := by decide +kernel
theorem dJ13_checkBoundsBeginEnd_0 : decode cJ13_checkBoundsBeginEnd 0 = .ok (.iload_n 0, 1) := dk_26 (dk_at dksJ13_checkBoundsBeginEnd_0 0 rfl rfl)
theorem dJ13_checkBoundsBeginEnd_1 : decode cJ13_checkBoundsBeginEnd 1 = .ok (.iload_n 1, 1) := dk_27 (dk_at dksJ13_checkBoundsBeginEnd_0 1 rfl rfl)
theorem dJ13_checkBoundsBeginEnd_2 : decode cJ13_checkBoundsBeginEnd 2 = .ok (.aload_n 2, 1) := dk_44 (dk_at dksJ13_checkBoundsBeginEnd_0 2 rfl rfl)
theorem dJ13_checkBoundsBeginEnd_3 : decode cJ13_checkBoundsBeginEnd 3 = .ok (.invokestatic 48, 3) := dk_184 0 48 (dk_at dksJ13_checkBoundsBeginEnd_0 3 rfl rfl)
theorem dJ13_checkBoundsBeginEnd_6 : decode cJ13_checkBoundsBeginEnd 6 = .ok (.invokestatic 241, 3) := dk_184 0 241 (dk_at dksJ13_checkBoundsBeginEnd_0 6 rfl rfl)
theorem dJ13_checkBoundsBeginEnd_9 : decode cJ13_checkBoundsBeginEnd 9 = .ok (.return_, 1) := dk_177 (dk_at dksJ13_checkBoundsBeginEnd_0 9 rfl rfl)
abbrev cJ13_length : ByteArray := prog_29_method_6_code
def yJ13_length : MethodName := ⟨RJ13, "length", "([B)I"⟩
def dkwJ13_length_0 : List UInt8 := [42, 190, 4, 122, 172]
abbrev dktJ13_length_0 : List UInt8 := dkwJ13_length_0 ++ []
theorem dksJ13_length_0 : cJ13_length.data.toList.drop 0 = dktJ13_length_0 := by decide +kernel
theorem dJ13_length_0 : decode cJ13_length 0 = .ok (.aload_n 0, 1) := dk_42 (dk_at dksJ13_length_0 0 rfl rfl)
theorem dJ13_length_1 : decode cJ13_length 1 = .ok (.arraylength, 1) := dk_190 (dk_at dksJ13_length_0 1 rfl rfl)
theorem dJ13_length_2 : decode cJ13_length 2 = .ok (.iconst 1, 1) := dk_4 (dk_at dksJ13_length_0 2 rfl rfl)
theorem dJ13_length_3 : decode cJ13_length 3 = .ok (.ishr, 1) := dk_122 (dk_at dksJ13_length_0 3 rfl rfl)
theorem dJ13_length_4 : decode cJ13_length 4 = .ok (.ireturn, 1) := dk_172 (dk_at dksJ13_length_0 4 rfl rfl)
abbrev cJ13_putChar : ByteArray := prog_29_method_4_code
def yJ13_putChar : MethodName := ⟨RJ13, "putChar", "([BII)V"⟩
def dkwJ13_putChar_2 : List UInt8 := [178, 0, 63, 122, 145, 84, 177]
abbrev dktJ13_putChar_2 : List UInt8 := dkwJ13_putChar_2 ++ []
def dkwJ13_putChar_1 : List UInt8 := [183, 0, 56, 191, 27, 4, 120, 60, 42, 27, 132, 1, 1, 28, 178, 0, 59, 122, 145, 84, 42, 27, 28]
abbrev dktJ13_putChar_1 : List UInt8 := dkwJ13_putChar_1 ++ dktJ13_putChar_2
def dkwJ13_putChar_0 : List UInt8 := [178, 0, 44, 154, 0, 25, 27, 155, 0, 11, 27, 42, 184, 0, 48, 161, 0, 13, 187, 0, 52, 89, 18, 54]
abbrev dktJ13_putChar_0 : List UInt8 := dkwJ13_putChar_0 ++ dktJ13_putChar_1
theorem dksJ13_putChar_0 : cJ13_putChar.data.toList.drop 0 = dktJ13_putChar_0 := by decide +kernel
theorem dksJ13_putChar_1 : cJ13_putChar.data.toList.drop 24 = dktJ13_putChar_1 := dk_seg dksJ13_putChar_0 24 rfl rfl
theorem dksJ13_putChar_2 : cJ13_putChar.data.toList.drop 47 = dktJ13_putChar_2 := dk_seg dksJ13_putChar_1 23 rfl rfl
theorem dJ13_putChar_0 : decode cJ13_putChar 0 = .ok (.getstatic 44, 3) := dk_178 0 44 (dk_at dksJ13_putChar_0 0 rfl rfl)
theorem dJ13_putChar_3 : decode cJ13_putChar 3 = .ok (.ifCond .ne 25, 3) := dk_154 0 25 (dk_at dksJ13_putChar_0 3 rfl rfl)
theorem dJ13_putChar_6 : decode cJ13_putChar 6 = .ok (.iload_n 1, 1) := dk_27 (dk_at dksJ13_putChar_0 6 rfl rfl)
theorem dJ13_putChar_7 : decode cJ13_putChar 7 = .ok (.ifCond .lt 11, 3) := dk_155 0 11 (dk_at dksJ13_putChar_0 7 rfl rfl)
theorem dJ13_putChar_10 : decode cJ13_putChar 10 = .ok (.iload_n 1, 1) := dk_27 (dk_at dksJ13_putChar_0 10 rfl rfl)
theorem dJ13_putChar_11 : decode cJ13_putChar 11 = .ok (.aload_n 0, 1) := dk_42 (dk_at dksJ13_putChar_0 11 rfl rfl)
theorem dJ13_putChar_12 : decode cJ13_putChar 12 = .ok (.invokestatic 48, 3) := dk_184 0 48 (dk_at dksJ13_putChar_0 12 rfl rfl)
theorem dJ13_putChar_15 : decode cJ13_putChar 15 = .ok (.if_icmp .lt 13, 3) := dk_161 0 13 (dk_at dksJ13_putChar_0 15 rfl rfl)
theorem dJ13_putChar_18 : decode cJ13_putChar 18 = .ok (.new 52, 3) := dk_187 0 52 (dk_at dksJ13_putChar_0 18 rfl rfl)
theorem dJ13_putChar_21 : decode cJ13_putChar 21 = .ok (.dup, 1) := dk_89 (dk_at dksJ13_putChar_0 21 rfl rfl)
theorem dJ13_putChar_22 : decode cJ13_putChar 22 = .ok (.ldc 54, 2) := dk_18 54 (dk_at dksJ13_putChar_0 22 rfl rfl)
theorem dJ13_putChar_24 : decode cJ13_putChar 24 = .ok (.invokespecial 56, 3) := dk_183 0 56 (dk_at dksJ13_putChar_1 0 rfl rfl)
theorem dJ13_putChar_27 : decode cJ13_putChar 27 = .ok (.athrow, 1) := dk_191 (dk_at dksJ13_putChar_1 3 rfl rfl)
theorem dJ13_putChar_28 : decode cJ13_putChar 28 = .ok (.iload_n 1, 1) := dk_27 (dk_at dksJ13_putChar_1 4 rfl rfl)
theorem dJ13_putChar_29 : decode cJ13_putChar 29 = .ok (.iconst 1, 1) := dk_4 (dk_at dksJ13_putChar_1 5 rfl rfl)
theorem dJ13_putChar_30 : decode cJ13_putChar 30 = .ok (.ishl, 1) := dk_120 (dk_at dksJ13_putChar_1 6 rfl rfl)
theorem dJ13_putChar_31 : decode cJ13_putChar 31 = .ok (.istore_n 1, 1) := dk_60 (dk_at dksJ13_putChar_1 7 rfl rfl)
theorem dJ13_putChar_32 : decode cJ13_putChar 32 = .ok (.aload_n 0, 1) := dk_42 (dk_at dksJ13_putChar_1 8 rfl rfl)
theorem dJ13_putChar_33 : decode cJ13_putChar 33 = .ok (.iload_n 1, 1) := dk_27 (dk_at dksJ13_putChar_1 9 rfl rfl)
theorem dJ13_putChar_34 : decode cJ13_putChar 34 = .ok (.iinc 1 1, 3) := dk_132 1 1 (dk_at dksJ13_putChar_1 10 rfl rfl)
theorem dJ13_putChar_37 : decode cJ13_putChar 37 = .ok (.iload_n 2, 1) := dk_28 (dk_at dksJ13_putChar_1 13 rfl rfl)
theorem dJ13_putChar_38 : decode cJ13_putChar 38 = .ok (.getstatic 59, 3) := dk_178 0 59 (dk_at dksJ13_putChar_1 14 rfl rfl)
theorem dJ13_putChar_41 : decode cJ13_putChar 41 = .ok (.ishr, 1) := dk_122 (dk_at dksJ13_putChar_1 17 rfl rfl)
theorem dJ13_putChar_42 : decode cJ13_putChar 42 = .ok (.i2b, 1) := dk_145 (dk_at dksJ13_putChar_1 18 rfl rfl)
theorem dJ13_putChar_43 : decode cJ13_putChar 43 = .ok (.bastore, 1) := dk_84 (dk_at dksJ13_putChar_1 19 rfl rfl)
theorem dJ13_putChar_44 : decode cJ13_putChar 44 = .ok (.aload_n 0, 1) := dk_42 (dk_at dksJ13_putChar_1 20 rfl rfl)
theorem dJ13_putChar_45 : decode cJ13_putChar 45 = .ok (.iload_n 1, 1) := dk_27 (dk_at dksJ13_putChar_1 21 rfl rfl)
theorem dJ13_putChar_46 : decode cJ13_putChar 46 = .ok (.iload_n 2, 1) := dk_28 (dk_at dksJ13_putChar_1 22 rfl rfl)
theorem dJ13_putChar_47 : decode cJ13_putChar 47 = .ok (.getstatic 63, 3) := dk_178 0 63 (dk_at dksJ13_putChar_2 0 rfl rfl)
theorem dJ13_putChar_50 : decode cJ13_putChar 50 = .ok (.ishr, 1) := dk_122 (dk_at dksJ13_putChar_2 3 rfl rfl)
theorem dJ13_putChar_51 : decode cJ13_putChar 51 = .ok (.i2b, 1) := dk_145 (dk_at dksJ13_putChar_2 4 rfl rfl)
theorem dJ13_putChar_52 : decode cJ13_putChar 52 = .ok (.bastore, 1) := dk_84 (dk_at dksJ13_putChar_2 5 rfl rfl)
theorem dJ13_putChar_53 : decode cJ13_putChar 53 = .ok (.return_, 1) := dk_177 (dk_at dksJ13_putChar_2 6 rfl rfl)
abbrev cJ13_inflate : ByteArray := prog_29_method_86_code
def yJ13_inflate : MethodName := ⟨RJ13, "inflate", "([BI[BII)V"⟩
def dkwJ13_inflate_1 : List UInt8 := [132, 1, 1, 51, 17, 0, 255, 126, 184, 0, 111, 132, 5, 1, 167, 255, 228, 177]
abbrev dktJ13_inflate_1 : List UInt8 := dkwJ13_inflate_1 ++ []
def dkwJ13_inflate_0 : List UInt8 := [29, 21, 4, 44, 184, 0, 173, 3, 54, 5, 21, 5, 21, 4, 162, 0, 27, 44, 29, 132, 3, 1, 42, 27]
abbrev dktJ13_inflate_0 : List UInt8 := dkwJ13_inflate_0 ++ dktJ13_inflate_1
theorem dksJ13_inflate_0 : cJ13_inflate.data.toList.drop 0 = dktJ13_inflate_0 := by decide +kernel
theorem dksJ13_inflate_1 : cJ13_inflate.data.toList.drop 24 = dktJ13_inflate_1 := dk_seg dksJ13_inflate_0 24 rfl rfl
theorem dJ13_inflate_0 : decode cJ13_inflate 0 = .ok (.iload_n 3, 1) := dk_29 (dk_at dksJ13_inflate_0 0 rfl rfl)
theorem dJ13_inflate_1 : decode cJ13_inflate 1 = .ok (.iload 4, 2) := dk_21 4 (dk_at dksJ13_inflate_0 1 rfl rfl)
theorem dJ13_inflate_3 : decode cJ13_inflate 3 = .ok (.aload_n 2, 1) := dk_44 (dk_at dksJ13_inflate_0 3 rfl rfl)
theorem dJ13_inflate_4 : decode cJ13_inflate 4 = .ok (.invokestatic 173, 3) := dk_184 0 173 (dk_at dksJ13_inflate_0 4 rfl rfl)
theorem dJ13_inflate_7 : decode cJ13_inflate 7 = .ok (.iconst 0, 1) := dk_3 (dk_at dksJ13_inflate_0 7 rfl rfl)
theorem dJ13_inflate_8 : decode cJ13_inflate 8 = .ok (.istore 5, 2) := dk_54 5 (dk_at dksJ13_inflate_0 8 rfl rfl)
theorem dJ13_inflate_10 : decode cJ13_inflate 10 = .ok (.iload 5, 2) := dk_21 5 (dk_at dksJ13_inflate_0 10 rfl rfl)
theorem dJ13_inflate_12 : decode cJ13_inflate 12 = .ok (.iload 4, 2) := dk_21 4 (dk_at dksJ13_inflate_0 12 rfl rfl)
theorem dJ13_inflate_14 : decode cJ13_inflate 14 = .ok (.if_icmp .ge 27, 3) := dk_162 0 27 (dk_at dksJ13_inflate_0 14 rfl rfl)
theorem dJ13_inflate_17 : decode cJ13_inflate 17 = .ok (.aload_n 2, 1) := dk_44 (dk_at dksJ13_inflate_0 17 rfl rfl)
theorem dJ13_inflate_18 : decode cJ13_inflate 18 = .ok (.iload_n 3, 1) := dk_29 (dk_at dksJ13_inflate_0 18 rfl rfl)
theorem dJ13_inflate_19 : decode cJ13_inflate 19 = .ok (.iinc 3 1, 3) := dk_132 3 1 (dk_at dksJ13_inflate_0 19 rfl rfl)
theorem dJ13_inflate_22 : decode cJ13_inflate 22 = .ok (.aload_n 0, 1) := dk_42 (dk_at dksJ13_inflate_0 22 rfl rfl)
theorem dJ13_inflate_23 : decode cJ13_inflate 23 = .ok (.iload_n 1, 1) := dk_27 (dk_at dksJ13_inflate_0 23 rfl rfl)
theorem dJ13_inflate_24 : decode cJ13_inflate 24 = .ok (.iinc 1 1, 3) := dk_132 1 1 (dk_at dksJ13_inflate_1 0 rfl rfl)
theorem dJ13_inflate_27 : decode cJ13_inflate 27 = .ok (.baload, 1) := dk_51 (dk_at dksJ13_inflate_1 3 rfl rfl)
theorem dJ13_inflate_28 : decode cJ13_inflate 28 = .ok (.sipush 255, 3) := dk_17 0 255 (dk_at dksJ13_inflate_1 4 rfl rfl)
theorem dJ13_inflate_31 : decode cJ13_inflate 31 = .ok (.iand, 1) := dk_126 (dk_at dksJ13_inflate_1 7 rfl rfl)
theorem dJ13_inflate_32 : decode cJ13_inflate 32 = .ok (.invokestatic 111, 3) := dk_184 0 111 (dk_at dksJ13_inflate_1 8 rfl rfl)
theorem dJ13_inflate_35 : decode cJ13_inflate 35 = .ok (.iinc 5 1, 3) := dk_132 5 1 (dk_at dksJ13_inflate_1 11 rfl rfl)
theorem dJ13_inflate_38 : decode cJ13_inflate 38 = .ok (.goto (-28), 3) := dk_167 255 228 (dk_at dksJ13_inflate_1 14 rfl rfl)
theorem dJ13_inflate_41 : decode cJ13_inflate 41 = .ok (.return_, 1) := dk_177 (dk_at dksJ13_inflate_1 17 rfl rfl)
abbrev cJ13_checkBoundsOffCount : ByteArray := prog_29_method_94_code
def yJ13_checkBoundsOffCount : MethodName := ⟨RJ13, "checkBoundsOffCount", "(II[B)V"⟩
def dkwJ13_checkBoundsOffCount_0 : List UInt8 := [26, 27, 44, 184, 0, 48, 184, 1, 163, 87, 177]
abbrev dktJ13_checkBoundsOffCount_0 : List UInt8 := dkwJ13_checkBoundsOffCount_0 ++ []
theorem dksJ13_checkBoundsOffCount_0 : cJ13_checkBoundsOffCount.data.toList.drop 0 = dktJ13_checkBoundsOffCount_0 := by decide +kernel
theorem dJ13_checkBoundsOffCount_0 : decode cJ13_checkBoundsOffCount 0 = .ok (.iload_n 0, 1) := dk_26 (dk_at dksJ13_checkBoundsOffCount_0 0 rfl rfl)
theorem dJ13_checkBoundsOffCount_1 : decode cJ13_checkBoundsOffCount 1 = .ok (.iload_n 1, 1) := dk_27 (dk_at dksJ13_checkBoundsOffCount_0 1 rfl rfl)
theorem dJ13_checkBoundsOffCount_2 : decode cJ13_checkBoundsOffCount 2 = .ok (.aload_n 2, 1) := dk_44 (dk_at dksJ13_checkBoundsOffCount_0 2 rfl rfl)
theorem dJ13_checkBoundsOffCount_3 : decode cJ13_checkBoundsOffCount 3 = .ok (.invokestatic 48, 3) := dk_184 0 48 (dk_at dksJ13_checkBoundsOffCount_0 3 rfl rfl)
theorem dJ13_checkBoundsOffCount_6 : decode cJ13_checkBoundsOffCount 6 = .ok (.invokestatic 419, 3) := dk_184 1 163 (dk_at dksJ13_checkBoundsOffCount_0 6 rfl rfl)
theorem dJ13_checkBoundsOffCount_9 : decode cJ13_checkBoundsOffCount 9 = .ok (.pop, 1) := dk_87 (dk_at dksJ13_checkBoundsOffCount_0 9 rfl rfl)
theorem dJ13_checkBoundsOffCount_10 : decode cJ13_checkBoundsOffCount 10 = .ok (.return_, 1) := dk_177 (dk_at dksJ13_checkBoundsOffCount_0 10 rfl rfl)
abbrev cJ13_compress : ByteArray := prog_29_method_17_code
def yJ13_compress : MethodName := ⟨RJ13, "compress", "([BII)[B"⟩
def dkwJ13_compress_2 : List UInt8 := [25, 5, 3, 45, 3, 28, 184, 0, 123, 28, 159, 0, 6, 25, 5, 176, 45, 176]
abbrev dktJ13_compress_2 : List UInt8 := dkwJ13_compress_2 ++ []
def dkwJ13_compress_1 : List UInt8 := [27, 28, 96, 184, 0, 11, 184, 0, 126, 58, 5, 25, 5, 21, 4, 184, 0, 71, 17, 0, 255, 163, 0, 16]
abbrev dktJ13_compress_1 : List UInt8 := dkwJ13_compress_1 ++ dktJ13_compress_2
def dkwJ13_compress_0 : List UInt8 := [28, 188, 8, 78, 42, 27, 45, 3, 28, 184, 0, 123, 54, 4, 21, 4, 28, 159, 0, 47, 42, 27, 4, 120]
abbrev dktJ13_compress_0 : List UInt8 := dkwJ13_compress_0 ++ dktJ13_compress_1
theorem dksJ13_compress_0 : cJ13_compress.data.toList.drop 0 = dktJ13_compress_0 := by decide +kernel
theorem dksJ13_compress_1 : cJ13_compress.data.toList.drop 24 = dktJ13_compress_1 := dk_seg dksJ13_compress_0 24 rfl rfl
theorem dksJ13_compress_2 : cJ13_compress.data.toList.drop 48 = dktJ13_compress_2 := dk_seg dksJ13_compress_1 24 rfl rfl
theorem dJ13_compress_0 : decode cJ13_compress 0 = .ok (.iload_n 2, 1) := dk_28 (dk_at dksJ13_compress_0 0 rfl rfl)
theorem dJ13_compress_1 : decode cJ13_compress 1 = .ok (.newarray .byte, 2) := dk_188_8 (dk_at dksJ13_compress_0 1 rfl rfl)
theorem dJ13_compress_3 : decode cJ13_compress 3 = .ok (.astore_n 3, 1) := dk_78 (dk_at dksJ13_compress_0 3 rfl rfl)
theorem dJ13_compress_4 : decode cJ13_compress 4 = .ok (.aload_n 0, 1) := dk_42 (dk_at dksJ13_compress_0 4 rfl rfl)
theorem dJ13_compress_5 : decode cJ13_compress 5 = .ok (.iload_n 1, 1) := dk_27 (dk_at dksJ13_compress_0 5 rfl rfl)
theorem dJ13_compress_6 : decode cJ13_compress 6 = .ok (.aload_n 3, 1) := dk_45 (dk_at dksJ13_compress_0 6 rfl rfl)
theorem dJ13_compress_7 : decode cJ13_compress 7 = .ok (.iconst 0, 1) := dk_3 (dk_at dksJ13_compress_0 7 rfl rfl)
theorem dJ13_compress_8 : decode cJ13_compress 8 = .ok (.iload_n 2, 1) := dk_28 (dk_at dksJ13_compress_0 8 rfl rfl)
theorem dJ13_compress_9 : decode cJ13_compress 9 = .ok (.invokestatic 123, 3) := dk_184 0 123 (dk_at dksJ13_compress_0 9 rfl rfl)
theorem dJ13_compress_12 : decode cJ13_compress 12 = .ok (.istore 4, 2) := dk_54 4 (dk_at dksJ13_compress_0 12 rfl rfl)
theorem dJ13_compress_14 : decode cJ13_compress 14 = .ok (.iload 4, 2) := dk_21 4 (dk_at dksJ13_compress_0 14 rfl rfl)
theorem dJ13_compress_16 : decode cJ13_compress 16 = .ok (.iload_n 2, 1) := dk_28 (dk_at dksJ13_compress_0 16 rfl rfl)
theorem dJ13_compress_17 : decode cJ13_compress 17 = .ok (.if_icmp .eq 47, 3) := dk_159 0 47 (dk_at dksJ13_compress_0 17 rfl rfl)
theorem dJ13_compress_20 : decode cJ13_compress 20 = .ok (.aload_n 0, 1) := dk_42 (dk_at dksJ13_compress_0 20 rfl rfl)
theorem dJ13_compress_21 : decode cJ13_compress 21 = .ok (.iload_n 1, 1) := dk_27 (dk_at dksJ13_compress_0 21 rfl rfl)
theorem dJ13_compress_22 : decode cJ13_compress 22 = .ok (.iconst 1, 1) := dk_4 (dk_at dksJ13_compress_0 22 rfl rfl)
theorem dJ13_compress_23 : decode cJ13_compress 23 = .ok (.ishl, 1) := dk_120 (dk_at dksJ13_compress_0 23 rfl rfl)
theorem dJ13_compress_24 : decode cJ13_compress 24 = .ok (.iload_n 1, 1) := dk_27 (dk_at dksJ13_compress_1 0 rfl rfl)
theorem dJ13_compress_25 : decode cJ13_compress 25 = .ok (.iload_n 2, 1) := dk_28 (dk_at dksJ13_compress_1 1 rfl rfl)
theorem dJ13_compress_26 : decode cJ13_compress 26 = .ok (.iadd, 1) := dk_96 (dk_at dksJ13_compress_1 2 rfl rfl)
theorem dJ13_compress_27 : decode cJ13_compress 27 = .ok (.invokestatic 11, 3) := dk_184 0 11 (dk_at dksJ13_compress_1 3 rfl rfl)
theorem dJ13_compress_30 : decode cJ13_compress 30 = .ok (.invokestatic 126, 3) := dk_184 0 126 (dk_at dksJ13_compress_1 6 rfl rfl)
theorem dJ13_compress_33 : decode cJ13_compress 33 = .ok (.astore 5, 2) := dk_58 5 (dk_at dksJ13_compress_1 9 rfl rfl)
theorem dJ13_compress_35 : decode cJ13_compress 35 = .ok (.aload 5, 2) := dk_25 5 (dk_at dksJ13_compress_1 11 rfl rfl)
theorem dJ13_compress_37 : decode cJ13_compress 37 = .ok (.iload 4, 2) := dk_21 4 (dk_at dksJ13_compress_1 13 rfl rfl)
theorem dJ13_compress_39 : decode cJ13_compress 39 = .ok (.invokestatic 71, 3) := dk_184 0 71 (dk_at dksJ13_compress_1 15 rfl rfl)
theorem dJ13_compress_42 : decode cJ13_compress 42 = .ok (.sipush 255, 3) := dk_17 0 255 (dk_at dksJ13_compress_1 18 rfl rfl)
theorem dJ13_compress_45 : decode cJ13_compress 45 = .ok (.if_icmp .gt 16, 3) := dk_163 0 16 (dk_at dksJ13_compress_1 21 rfl rfl)
theorem dJ13_compress_48 : decode cJ13_compress 48 = .ok (.aload 5, 2) := dk_25 5 (dk_at dksJ13_compress_2 0 rfl rfl)
theorem dJ13_compress_50 : decode cJ13_compress 50 = .ok (.iconst 0, 1) := dk_3 (dk_at dksJ13_compress_2 2 rfl rfl)
theorem dJ13_compress_51 : decode cJ13_compress 51 = .ok (.aload_n 3, 1) := dk_45 (dk_at dksJ13_compress_2 3 rfl rfl)
theorem dJ13_compress_52 : decode cJ13_compress 52 = .ok (.iconst 0, 1) := dk_3 (dk_at dksJ13_compress_2 4 rfl rfl)
theorem dJ13_compress_53 : decode cJ13_compress 53 = .ok (.iload_n 2, 1) := dk_28 (dk_at dksJ13_compress_2 5 rfl rfl)
theorem dJ13_compress_54 : decode cJ13_compress 54 = .ok (.invokestatic 123, 3) := dk_184 0 123 (dk_at dksJ13_compress_2 6 rfl rfl)
theorem dJ13_compress_57 : decode cJ13_compress 57 = .ok (.iload_n 2, 1) := dk_28 (dk_at dksJ13_compress_2 9 rfl rfl)
theorem dJ13_compress_58 : decode cJ13_compress 58 = .ok (.if_icmp .eq 6, 3) := dk_159 0 6 (dk_at dksJ13_compress_2 10 rfl rfl)
theorem dJ13_compress_61 : decode cJ13_compress 61 = .ok (.aload 5, 2) := dk_25 5 (dk_at dksJ13_compress_2 13 rfl rfl)
theorem dJ13_compress_63 : decode cJ13_compress 63 = .ok (.areturn, 1) := dk_176 (dk_at dksJ13_compress_2 15 rfl rfl)
theorem dJ13_compress_64 : decode cJ13_compress 64 = .ok (.aload_n 3, 1) := dk_45 (dk_at dksJ13_compress_2 16 rfl rfl)
theorem dJ13_compress_65 : decode cJ13_compress 65 = .ok (.areturn, 1) := dk_176 (dk_at dksJ13_compress_2 17 rfl rfl)
abbrev cJ13_compress_2 : ByteArray := prog_29_method_22_code
def yJ13_compress_2 : MethodName := ⟨RJ13, "compress", "([BI[BII)I"⟩
def dkwJ13_compress_2_2 : List UInt8 := [132, 5, 1, 167, 255, 216, 21, 4, 172]
abbrev dktJ13_compress_2_2 : List UInt8 := dkwJ13_compress_2_2 ++ []
def dkwJ13_compress_2_1 : List UInt8 := [21, 6, 17, 0, 255, 164, 0, 6, 21, 5, 172, 44, 29, 21, 6, 145, 84, 132, 1, 1, 132, 3, 1]
abbrev dktJ13_compress_2_1 : List UInt8 := dkwJ13_compress_2_1 ++ dktJ13_compress_2_2
def dkwJ13_compress_2_0 : List UInt8 := [27, 21, 4, 42, 184, 0, 173, 3, 54, 5, 21, 5, 21, 4, 162, 0, 39, 42, 27, 184, 0, 71, 54, 6]
abbrev dktJ13_compress_2_0 : List UInt8 := dkwJ13_compress_2_0 ++ dktJ13_compress_2_1
theorem dksJ13_compress_2_0 : cJ13_compress_2.data.toList.drop 0 = dktJ13_compress_2_0 := by decide +kernel
theorem dksJ13_compress_2_1 : cJ13_compress_2.data.toList.drop 24 = dktJ13_compress_2_1 := dk_seg dksJ13_compress_2_0 24 rfl rfl
theorem dksJ13_compress_2_2 : cJ13_compress_2.data.toList.drop 47 = dktJ13_compress_2_2 := dk_seg dksJ13_compress_2_1 23 rfl rfl
theorem dJ13_compress_2_0 : decode cJ13_compress_2 0 = .ok (.iload_n 1, 1) := dk_27 (dk_at dksJ13_compress_2_0 0 rfl rfl)
theorem dJ13_compress_2_1 : decode cJ13_compress_2 1 = .ok (.iload 4, 2) := dk_21 4 (dk_at dksJ13_compress_2_0 1 rfl rfl)
theorem dJ13_compress_2_3 : decode cJ13_compress_2 3 = .ok (.aload_n 0, 1) := dk_42 (dk_at dksJ13_compress_2_0 3 rfl rfl)
theorem dJ13_compress_2_4 : decode cJ13_compress_2 4 = .ok (.invokestatic 173, 3) := dk_184 0 173 (dk_at dksJ13_compress_2_0 4 rfl rfl)
theorem dJ13_compress_2_7 : decode cJ13_compress_2 7 = .ok (.iconst 0, 1) := dk_3 (dk_at dksJ13_compress_2_0 7 rfl rfl)
theorem dJ13_compress_2_8 : decode cJ13_compress_2 8 = .ok (.istore 5, 2) := dk_54 5 (dk_at dksJ13_compress_2_0 8 rfl rfl)
theorem dJ13_compress_2_10 : decode cJ13_compress_2 10 = .ok (.iload 5, 2) := dk_21 5 (dk_at dksJ13_compress_2_0 10 rfl rfl)
theorem dJ13_compress_2_12 : decode cJ13_compress_2 12 = .ok (.iload 4, 2) := dk_21 4 (dk_at dksJ13_compress_2_0 12 rfl rfl)
theorem dJ13_compress_2_14 : decode cJ13_compress_2 14 = .ok (.if_icmp .ge 39, 3) := dk_162 0 39 (dk_at dksJ13_compress_2_0 14 rfl rfl)
theorem dJ13_compress_2_17 : decode cJ13_compress_2 17 = .ok (.aload_n 0, 1) := dk_42 (dk_at dksJ13_compress_2_0 17 rfl rfl)
theorem dJ13_compress_2_18 : decode cJ13_compress_2 18 = .ok (.iload_n 1, 1) := dk_27 (dk_at dksJ13_compress_2_0 18 rfl rfl)
theorem dJ13_compress_2_19 : decode cJ13_compress_2 19 = .ok (.invokestatic 71, 3) := dk_184 0 71 (dk_at dksJ13_compress_2_0 19 rfl rfl)
theorem dJ13_compress_2_22 : decode cJ13_compress_2 22 = .ok (.istore 6, 2) := dk_54 6 (dk_at dksJ13_compress_2_0 22 rfl rfl)
theorem dJ13_compress_2_24 : decode cJ13_compress_2 24 = .ok (.iload 6, 2) := dk_21 6 (dk_at dksJ13_compress_2_1 0 rfl rfl)
theorem dJ13_compress_2_26 : decode cJ13_compress_2 26 = .ok (.sipush 255, 3) := dk_17 0 255 (dk_at dksJ13_compress_2_1 2 rfl rfl)
theorem dJ13_compress_2_29 : decode cJ13_compress_2 29 = .ok (.if_icmp .le 6, 3) := dk_164 0 6 (dk_at dksJ13_compress_2_1 5 rfl rfl)
theorem dJ13_compress_2_32 : decode cJ13_compress_2 32 = .ok (.iload 5, 2) := dk_21 5 (dk_at dksJ13_compress_2_1 8 rfl rfl)
theorem dJ13_compress_2_34 : decode cJ13_compress_2 34 = .ok (.ireturn, 1) := dk_172 (dk_at dksJ13_compress_2_1 10 rfl rfl)
theorem dJ13_compress_2_35 : decode cJ13_compress_2 35 = .ok (.aload_n 2, 1) := dk_44 (dk_at dksJ13_compress_2_1 11 rfl rfl)
theorem dJ13_compress_2_36 : decode cJ13_compress_2 36 = .ok (.iload_n 3, 1) := dk_29 (dk_at dksJ13_compress_2_1 12 rfl rfl)
theorem dJ13_compress_2_37 : decode cJ13_compress_2 37 = .ok (.iload 6, 2) := dk_21 6 (dk_at dksJ13_compress_2_1 13 rfl rfl)
theorem dJ13_compress_2_39 : decode cJ13_compress_2 39 = .ok (.i2b, 1) := dk_145 (dk_at dksJ13_compress_2_1 15 rfl rfl)
theorem dJ13_compress_2_40 : decode cJ13_compress_2 40 = .ok (.bastore, 1) := dk_84 (dk_at dksJ13_compress_2_1 16 rfl rfl)
theorem dJ13_compress_2_41 : decode cJ13_compress_2 41 = .ok (.iinc 1 1, 3) := dk_132 1 1 (dk_at dksJ13_compress_2_1 17 rfl rfl)
theorem dJ13_compress_2_44 : decode cJ13_compress_2 44 = .ok (.iinc 3 1, 3) := dk_132 3 1 (dk_at dksJ13_compress_2_1 20 rfl rfl)
theorem dJ13_compress_2_47 : decode cJ13_compress_2 47 = .ok (.iinc 5 1, 3) := dk_132 5 1 (dk_at dksJ13_compress_2_2 0 rfl rfl)
theorem dJ13_compress_2_50 : decode cJ13_compress_2 50 = .ok (.goto (-40), 3) := dk_167 255 216 (dk_at dksJ13_compress_2_2 3 rfl rfl)
theorem dJ13_compress_2_53 : decode cJ13_compress_2 53 = .ok (.iload 4, 2) := dk_21 4 (dk_at dksJ13_compress_2_2 6 rfl rfl)
theorem dJ13_compress_2_55 : decode cJ13_compress_2 55 = .ok (.ireturn, 1) := dk_172 (dk_at dksJ13_compress_2_2 8 rfl rfl)
abbrev cJ13_getChar : ByteArray := prog_29_method_5_code
def yJ13_getChar : MethodName := ⟨RJ13, "getChar", "([BI)C"⟩
def dkwJ13_getChar_2 : List UInt8 := [51, 17, 0, 255, 126, 178, 0, 63, 120, 128, 146, 172]
abbrev dktJ13_getChar_2 : List UInt8 := dkwJ13_getChar_2 ++ []
def dkwJ13_getChar_1 : List UInt8 := [183, 0, 56, 191, 27, 4, 120, 60, 42, 27, 132, 1, 1, 51, 17, 0, 255, 126, 178, 0, 59, 120, 42, 27]
abbrev dktJ13_getChar_1 : List UInt8 := dkwJ13_getChar_1 ++ dktJ13_getChar_2
def dkwJ13_getChar_0 : List UInt8 := [178, 0, 44, 154, 0, 25, 27, 155, 0, 11, 27, 42, 184, 0, 48, 161, 0, 13, 187, 0, 52, 89, 18, 54]
abbrev dktJ13_getChar_0 : List UInt8 := dkwJ13_getChar_0 ++ dktJ13_getChar_1
theorem dksJ13_getChar_0 : cJ13_getChar.data.toList.drop 0 = dktJ13_getChar_0 := by decide +kernel
theorem dksJ13_getChar_1 : cJ13_getChar.data.toList.drop 24 = dktJ13_getChar_1 := dk_seg dksJ13_getChar_0 24 rfl rfl
theorem dksJ13_getChar_2 : cJ13_getChar.data.toList.drop 48 = dktJ13_getChar_2 := dk_seg dksJ13_getChar_1 24 rfl rfl
theorem dJ13_getChar_0 : decode cJ13_getChar 0 = .ok (.getstatic 44, 3) := dk_178 0 44 (dk_at dksJ13_getChar_0 0 rfl rfl)
theorem dJ13_getChar_3 : decode cJ13_getChar 3 = .ok (.ifCond .ne 25, 3) := dk_154 0 25 (dk_at dksJ13_getChar_0 3 rfl rfl)
theorem dJ13_getChar_6 : decode cJ13_getChar 6 = .ok (.iload_n 1, 1) := dk_27 (dk_at dksJ13_getChar_0 6 rfl rfl)
theorem dJ13_getChar_7 : decode cJ13_getChar 7 = .ok (.ifCond .lt 11, 3) := dk_155 0 11 (dk_at dksJ13_getChar_0 7 rfl rfl)
theorem dJ13_getChar_10 : decode cJ13_getChar 10 = .ok (.iload_n 1, 1) := dk_27 (dk_at dksJ13_getChar_0 10 rfl rfl)
theorem dJ13_getChar_11 : decode cJ13_getChar 11 = .ok (.aload_n 0, 1) := dk_42 (dk_at dksJ13_getChar_0 11 rfl rfl)
theorem dJ13_getChar_12 : decode cJ13_getChar 12 = .ok (.invokestatic 48, 3) := dk_184 0 48 (dk_at dksJ13_getChar_0 12 rfl rfl)
theorem dJ13_getChar_15 : decode cJ13_getChar 15 = .ok (.if_icmp .lt 13, 3) := dk_161 0 13 (dk_at dksJ13_getChar_0 15 rfl rfl)
theorem dJ13_getChar_18 : decode cJ13_getChar 18 = .ok (.new 52, 3) := dk_187 0 52 (dk_at dksJ13_getChar_0 18 rfl rfl)
theorem dJ13_getChar_21 : decode cJ13_getChar 21 = .ok (.dup, 1) := dk_89 (dk_at dksJ13_getChar_0 21 rfl rfl)
theorem dJ13_getChar_22 : decode cJ13_getChar 22 = .ok (.ldc 54, 2) := dk_18 54 (dk_at dksJ13_getChar_0 22 rfl rfl)
theorem dJ13_getChar_24 : decode cJ13_getChar 24 = .ok (.invokespecial 56, 3) := dk_183 0 56 (dk_at dksJ13_getChar_1 0 rfl rfl)
theorem dJ13_getChar_27 : decode cJ13_getChar 27 = .ok (.athrow, 1) := dk_191 (dk_at dksJ13_getChar_1 3 rfl rfl)
theorem dJ13_getChar_28 : decode cJ13_getChar 28 = .ok (.iload_n 1, 1) := dk_27 (dk_at dksJ13_getChar_1 4 rfl rfl)
theorem dJ13_getChar_29 : decode cJ13_getChar 29 = .ok (.iconst 1, 1) := dk_4 (dk_at dksJ13_getChar_1 5 rfl rfl)
theorem dJ13_getChar_30 : decode cJ13_getChar 30 = .ok (.ishl, 1) := dk_120 (dk_at dksJ13_getChar_1 6 rfl rfl)
theorem dJ13_getChar_31 : decode cJ13_getChar 31 = .ok (.istore_n 1, 1) := dk_60 (dk_at dksJ13_getChar_1 7 rfl rfl)
theorem dJ13_getChar_32 : decode cJ13_getChar 32 = .ok (.aload_n 0, 1) := dk_42 (dk_at dksJ13_getChar_1 8 rfl rfl)
theorem dJ13_getChar_33 : decode cJ13_getChar 33 = .ok (.iload_n 1, 1) := dk_27 (dk_at dksJ13_getChar_1 9 rfl rfl)
theorem dJ13_getChar_34 : decode cJ13_getChar 34 = .ok (.iinc 1 1, 3) := dk_132 1 1 (dk_at dksJ13_getChar_1 10 rfl rfl)
theorem dJ13_getChar_37 : decode cJ13_getChar 37 = .ok (.baload, 1) := dk_51 (dk_at dksJ13_getChar_1 13 rfl rfl)
theorem dJ13_getChar_38 : decode cJ13_getChar 38 = .ok (.sipush 255, 3) := dk_17 0 255 (dk_at dksJ13_getChar_1 14 rfl rfl)
theorem dJ13_getChar_41 : decode cJ13_getChar 41 = .ok (.iand, 1) := dk_126 (dk_at dksJ13_getChar_1 17 rfl rfl)
theorem dJ13_getChar_42 : decode cJ13_getChar 42 = .ok (.getstatic 59, 3) := dk_178 0 59 (dk_at dksJ13_getChar_1 18 rfl rfl)
theorem dJ13_getChar_45 : decode cJ13_getChar 45 = .ok (.ishl, 1) := dk_120 (dk_at dksJ13_getChar_1 21 rfl rfl)
theorem dJ13_getChar_46 : decode cJ13_getChar 46 = .ok (.aload_n 0, 1) := dk_42 (dk_at dksJ13_getChar_1 22 rfl rfl)
theorem dJ13_getChar_47 : decode cJ13_getChar 47 = .ok (.iload_n 1, 1) := dk_27 (dk_at dksJ13_getChar_1 23 rfl rfl)
theorem dJ13_getChar_48 : decode cJ13_getChar 48 = .ok (.baload, 1) := dk_51 (dk_at dksJ13_getChar_2 0 rfl rfl)
theorem dJ13_getChar_49 : decode cJ13_getChar 49 = .ok (.sipush 255, 3) := dk_17 0 255 (dk_at dksJ13_getChar_2 1 rfl rfl)
theorem dJ13_getChar_52 : decode cJ13_getChar 52 = .ok (.iand, 1) := dk_126 (dk_at dksJ13_getChar_2 4 rfl rfl)
theorem dJ13_getChar_53 : decode cJ13_getChar 53 = .ok (.getstatic 63, 3) := dk_178 0 63 (dk_at dksJ13_getChar_2 5 rfl rfl)
theorem dJ13_getChar_56 : decode cJ13_getChar 56 = .ok (.ishl, 1) := dk_120 (dk_at dksJ13_getChar_2 8 rfl rfl)
theorem dJ13_getChar_57 : decode cJ13_getChar 57 = .ok (.ior, 1) := dk_128 (dk_at dksJ13_getChar_2 9 rfl rfl)
theorem dJ13_getChar_58 : decode cJ13_getChar 58 = .ok (.i2c, 1) := dk_146 (dk_at dksJ13_getChar_2 10 rfl rfl)
theorem dJ13_getChar_59 : decode cJ13_getChar 59 = .ok (.ireturn, 1) := dk_172 (dk_at dksJ13_getChar_2 11 rfl rfl)
abbrev cJ13_coderFromArrayLen : ByteArray := prog_29_method_15_code
def yJ13_coderFromArrayLen : MethodName := ⟨RJ13, "coderFromArrayLen", "([BI)B"⟩
def dkwJ13_coderFromArrayLen_0 : List UInt8 := [27, 42, 190, 100, 16, 31, 124, 145, 172]
abbrev dktJ13_coderFromArrayLen_0 : List UInt8 := dkwJ13_coderFromArrayLen_0 ++ []
theorem dksJ13_coderFromArrayLen_0 : cJ13_coderFromArrayLen.data.toList.drop 0 = dktJ13_coderFromArrayLen_0 := by decide +kernel
theorem dJ13_coderFromArrayLen_0 : decode cJ13_coderFromArrayLen 0 = .ok (.iload_n 1, 1) := dk_27 (dk_at dksJ13_coderFromArrayLen_0 0 rfl rfl)
theorem dJ13_coderFromArrayLen_1 : decode cJ13_coderFromArrayLen 1 = .ok (.aload_n 0, 1) := dk_42 (dk_at dksJ13_coderFromArrayLen_0 1 rfl rfl)
theorem dJ13_coderFromArrayLen_2 : decode cJ13_coderFromArrayLen 2 = .ok (.arraylength, 1) := dk_190 (dk_at dksJ13_coderFromArrayLen_0 2 rfl rfl)
theorem dJ13_coderFromArrayLen_3 : decode cJ13_coderFromArrayLen 3 = .ok (.isub, 1) := dk_100 (dk_at dksJ13_coderFromArrayLen_0 3 rfl rfl)
theorem dJ13_coderFromArrayLen_4 : decode cJ13_coderFromArrayLen 4 = .ok (.bipush 31, 2) := dk_16 31 (dk_at dksJ13_coderFromArrayLen_0 4 rfl rfl)
theorem dJ13_coderFromArrayLen_6 : decode cJ13_coderFromArrayLen 6 = .ok (.iushr, 1) := dk_124 (dk_at dksJ13_coderFromArrayLen_0 6 rfl rfl)
theorem dJ13_coderFromArrayLen_7 : decode cJ13_coderFromArrayLen 7 = .ok (.i2b, 1) := dk_145 (dk_at dksJ13_coderFromArrayLen_0 7 rfl rfl)
theorem dJ13_coderFromArrayLen_8 : decode cJ13_coderFromArrayLen 8 = .ok (.ireturn, 1) := dk_172 (dk_at dksJ13_coderFromArrayLen_0 8 rfl rfl)
abbrev cJ13_putCharSB : ByteArray := prog_29_method_71_code
def yJ13_putCharSB : MethodName := ⟨RJ13, "putCharSB", "([BII)V"⟩
def dkwJ13_putCharSB_0 : List UInt8 := [27, 42, 184, 0, 67, 42, 27, 28, 184, 0, 111, 177]
abbrev dktJ13_putCharSB_0 : List UInt8 := dkwJ13_putCharSB_0 ++ []
theorem dksJ13_putCharSB_0 : cJ13_putCharSB.data.toList.drop 0 = dktJ13_putCharSB_0 := by decide +kernel
theorem dJ13_putCharSB_0 : decode cJ13_putCharSB 0 = .ok (.iload_n 1, 1) := dk_27 (dk_at dksJ13_putCharSB_0 0 rfl rfl)
theorem dJ13_putCharSB_1 : decode cJ13_putCharSB 1 = .ok (.aload_n 0, 1) := dk_42 (dk_at dksJ13_putCharSB_0 1 rfl rfl)
theorem dJ13_putCharSB_2 : decode cJ13_putCharSB 2 = .ok (.invokestatic 67, 3) := dk_184 0 67 (dk_at dksJ13_putCharSB_0 2 rfl rfl)
theorem dJ13_putCharSB_5 : decode cJ13_putCharSB 5 = .ok (.aload_n 0, 1) := dk_42 (dk_at dksJ13_putCharSB_0 5 rfl rfl)
theorem dJ13_putCharSB_6 : decode cJ13_putCharSB 6 = .ok (.iload_n 1, 1) := dk_27 (dk_at dksJ13_putCharSB_0 6 rfl rfl)
theorem dJ13_putCharSB_7 : decode cJ13_putCharSB 7 = .ok (.iload_n 2, 1) := dk_28 (dk_at dksJ13_putCharSB_0 7 rfl rfl)
theorem dJ13_putCharSB_8 : decode cJ13_putCharSB 8 = .ok (.invokestatic 111, 3) := dk_184 0 111 (dk_at dksJ13_putCharSB_0 8 rfl rfl)
theorem dJ13_putCharSB_11 : decode cJ13_putCharSB 11 = .ok (.return_, 1) := dk_177 (dk_at dksJ13_putCharSB_0 11 rfl rfl)
abbrev cJ13_checkIndex : ByteArray := prog_29_method_91_code
def yJ13_checkIndex : MethodName := ⟨RJ13, "checkIndex", "(I[B)V"⟩
def dkwJ13_checkIndex_0 : List UInt8 := [26, 43, 184, 0, 48, 184, 1, 158, 177]
abbrev dktJ13_checkIndex_0 : List UInt8 := dkwJ13_checkIndex_0 ++ []
theorem dksJ13_checkIndex_0 : cJ13_checkIndex.data.toList.drop 0 = dktJ13_checkIndex_0 := by decide +kernel
theorem dJ13_checkIndex_0 : decode cJ13_checkIndex 0 = .ok (.iload_n 0, 1) := dk_26 (dk_at dksJ13_checkIndex_0 0 rfl rfl)
theorem dJ13_checkIndex_1 : decode cJ13_checkIndex 1 = .ok (.aload_n 1, 1) := dk_43 (dk_at dksJ13_checkIndex_0 1 rfl rfl)
theorem dJ13_checkIndex_2 : decode cJ13_checkIndex 2 = .ok (.invokestatic 48, 3) := dk_184 0 48 (dk_at dksJ13_checkIndex_0 2 rfl rfl)
theorem dJ13_checkIndex_5 : decode cJ13_checkIndex 5 = .ok (.invokestatic 414, 3) := dk_184 1 158 (dk_at dksJ13_checkIndex_0 5 rfl rfl)
theorem dJ13_checkIndex_8 : decode cJ13_checkIndex 8 = .ok (.return_, 1) := dk_177 (dk_at dksJ13_checkIndex_0 8 rfl rfl)
abbrev cJ13_charAt : ByteArray := prog_29_method_83_code
def yJ13_charAt : MethodName := ⟨RJ13, "charAt", "([BI)C"⟩
def dkwJ13_charAt_0 : List UInt8 := [27, 42, 184, 0, 67, 42, 27, 184, 0, 71, 172]
abbrev dktJ13_charAt_0 : List UInt8 := dkwJ13_charAt_0 ++ []
theorem dksJ13_charAt_0 : cJ13_charAt.data.toList.drop 0 = dktJ13_charAt_0 := by decide +kernel
theorem dJ13_charAt_0 : decode cJ13_charAt 0 = .ok (.iload_n 1, 1) := dk_27 (dk_at dksJ13_charAt_0 0 rfl rfl)
theorem dJ13_charAt_1 : decode cJ13_charAt 1 = .ok (.aload_n 0, 1) := dk_42 (dk_at dksJ13_charAt_0 1 rfl rfl)
theorem dJ13_charAt_2 : decode cJ13_charAt 2 = .ok (.invokestatic 67, 3) := dk_184 0 67 (dk_at dksJ13_charAt_0 2 rfl rfl)
theorem dJ13_charAt_5 : decode cJ13_charAt 5 = .ok (.aload_n 0, 1) := dk_42 (dk_at dksJ13_charAt_0 5 rfl rfl)
theorem dJ13_charAt_6 : decode cJ13_charAt 6 = .ok (.iload_n 1, 1) := dk_27 (dk_at dksJ13_charAt_0 6 rfl rfl)
theorem dJ13_charAt_7 : decode cJ13_charAt 7 = .ok (.invokestatic 71, 3) := dk_184 0 71 (dk_at dksJ13_charAt_0 7 rfl rfl)
theorem dJ13_charAt_10 : decode cJ13_charAt 10 = .ok (.ireturn, 1) := dk_172 (dk_at dksJ13_charAt_0 10 rfl rfl)
abbrev cJ13_hashCode : ByteArray := prog_29_method_39_code
def yJ13_hashCode : MethodName := ⟨RJ13, "hashCode", "([B)I"⟩
def dkwJ13_hashCode_2 : List UInt8 := [3, 167, 0, 22, 42, 3, 184, 0, 71, 167, 0, 14, 42, 3, 42, 190, 4, 122, 3, 8, 184, 0, 220, 172]
abbrev dktJ13_hashCode_2 : List UInt8 := dkwJ13_hashCode_2 ++ []
def dkwJ13_hashCode_1 : List UInt8 := [171, 0, 0, 0, 0, 38, 0, 0, 0, 2, 0, 0, 0, 0, 0, 0, 0, 26, 0, 0, 0, 2, 0, 0, 0, 30]
abbrev dktJ13_hashCode_1 : List UInt8 := dkwJ13_hashCode_1 ++ dktJ13_hashCode_2
def dkwJ13_hashCode_0 : List UInt8 := [42, 190]
abbrev dktJ13_hashCode_0 : List UInt8 := dkwJ13_hashCode_0 ++ dktJ13_hashCode_1
theorem dksJ13_hashCode_0 : cJ13_hashCode.data.toList.drop 0 = dktJ13_hashCode_0 := by decide +kernel
theorem dksJ13_hashCode_1 : cJ13_hashCode.data.toList.drop 2 = dktJ13_hashCode_1 := dk_seg dksJ13_hashCode_0 2 rfl rfl
theorem dksJ13_hashCode_2 : cJ13_hashCode.data.toList.drop 28 = dktJ13_hashCode_2 := dk_seg dksJ13_hashCode_1 26 rfl rfl
theorem dJ13_hashCode_0 : decode cJ13_hashCode 0 = .ok (.aload_n 0, 1) := dk_42 (dk_at dksJ13_hashCode_0 0 rfl rfl)
theorem dJ13_hashCode_1 : decode cJ13_hashCode 1 = .ok (.arraylength, 1) := dk_190 (dk_at dksJ13_hashCode_0 1 rfl rfl)
theorem dJ13_hashCode_2 : decode cJ13_hashCode 2 = .ok (.lookupswitch 38 #[(0, 26), (2, 30)], 26) := by decide +kernel
theorem dJ13_hashCode_28 : decode cJ13_hashCode 28 = .ok (.iconst 0, 1) := dk_3 (dk_at dksJ13_hashCode_2 0 rfl rfl)
theorem dJ13_hashCode_29 : decode cJ13_hashCode 29 = .ok (.goto 22, 3) := dk_167 0 22 (dk_at dksJ13_hashCode_2 1 rfl rfl)
theorem dJ13_hashCode_32 : decode cJ13_hashCode 32 = .ok (.aload_n 0, 1) := dk_42 (dk_at dksJ13_hashCode_2 4 rfl rfl)
theorem dJ13_hashCode_33 : decode cJ13_hashCode 33 = .ok (.iconst 0, 1) := dk_3 (dk_at dksJ13_hashCode_2 5 rfl rfl)
theorem dJ13_hashCode_34 : decode cJ13_hashCode 34 = .ok (.invokestatic 71, 3) := dk_184 0 71 (dk_at dksJ13_hashCode_2 6 rfl rfl)
theorem dJ13_hashCode_37 : decode cJ13_hashCode 37 = .ok (.goto 14, 3) := dk_167 0 14 (dk_at dksJ13_hashCode_2 9 rfl rfl)
theorem dJ13_hashCode_40 : decode cJ13_hashCode 40 = .ok (.aload_n 0, 1) := dk_42 (dk_at dksJ13_hashCode_2 12 rfl rfl)
theorem dJ13_hashCode_41 : decode cJ13_hashCode 41 = .ok (.iconst 0, 1) := dk_3 (dk_at dksJ13_hashCode_2 13 rfl rfl)
theorem dJ13_hashCode_42 : decode cJ13_hashCode 42 = .ok (.aload_n 0, 1) := dk_42 (dk_at dksJ13_hashCode_2 14 rfl rfl)
theorem dJ13_hashCode_43 : decode cJ13_hashCode 43 = .ok (.arraylength, 1) := dk_190 (dk_at dksJ13_hashCode_2 15 rfl rfl)
theorem dJ13_hashCode_44 : decode cJ13_hashCode 44 = .ok (.iconst 1, 1) := dk_4 (dk_at dksJ13_hashCode_2 16 rfl rfl)
theorem dJ13_hashCode_45 : decode cJ13_hashCode 45 = .ok (.ishr, 1) := dk_122 (dk_at dksJ13_hashCode_2 17 rfl rfl)
theorem dJ13_hashCode_46 : decode cJ13_hashCode 46 = .ok (.iconst 0, 1) := dk_3 (dk_at dksJ13_hashCode_2 18 rfl rfl)
theorem dJ13_hashCode_47 : decode cJ13_hashCode 47 = .ok (.iconst 5, 1) := dk_8 (dk_at dksJ13_hashCode_2 19 rfl rfl)
theorem dJ13_hashCode_48 : decode cJ13_hashCode 48 = .ok (.invokestatic 220, 3) := dk_184 0 220 (dk_at dksJ13_hashCode_2 20 rfl rfl)
theorem dJ13_hashCode_51 : decode cJ13_hashCode 51 = .ok (.ireturn, 1) := dk_172 (dk_at dksJ13_hashCode_2 23 rfl rfl)
abbrev cJ13_fillNull : ByteArray := prog_29_method_70_code
def yJ13_fillNull : MethodName := ⟨RJ13, "fillNull", "([BII)V"⟩
def dkwJ13_fillNull_0 : List UInt8 := [42, 27, 4, 120, 28, 4, 120, 3, 184, 1, 124, 177]
abbrev dktJ13_fillNull_0 : List UInt8 := dkwJ13_fillNull_0 ++ []
theorem dksJ13_fillNull_0 : cJ13_fillNull.data.toList.drop 0 = dktJ13_fillNull_0 := by decide +kernel
theorem dJ13_fillNull_0 : decode cJ13_fillNull 0 = .ok (.aload_n 0, 1) := dk_42 (dk_at dksJ13_fillNull_0 0 rfl rfl)
theorem dJ13_fillNull_1 : decode cJ13_fillNull 1 = .ok (.iload_n 1, 1) := dk_27 (dk_at dksJ13_fillNull_0 1 rfl rfl)
theorem dJ13_fillNull_2 : decode cJ13_fillNull 2 = .ok (.iconst 1, 1) := dk_4 (dk_at dksJ13_fillNull_0 2 rfl rfl)
theorem dJ13_fillNull_3 : decode cJ13_fillNull 3 = .ok (.ishl, 1) := dk_120 (dk_at dksJ13_fillNull_0 3 rfl rfl)
theorem dJ13_fillNull_4 : decode cJ13_fillNull 4 = .ok (.iload_n 2, 1) := dk_28 (dk_at dksJ13_fillNull_0 4 rfl rfl)
theorem dJ13_fillNull_5 : decode cJ13_fillNull 5 = .ok (.iconst 1, 1) := dk_4 (dk_at dksJ13_fillNull_0 5 rfl rfl)
theorem dJ13_fillNull_6 : decode cJ13_fillNull 6 = .ok (.ishl, 1) := dk_120 (dk_at dksJ13_fillNull_0 6 rfl rfl)
theorem dJ13_fillNull_7 : decode cJ13_fillNull 7 = .ok (.iconst 0, 1) := dk_3 (dk_at dksJ13_fillNull_0 7 rfl rfl)
theorem dJ13_fillNull_8 : decode cJ13_fillNull 8 = .ok (.invokestatic 380, 3) := dk_184 1 124 (dk_at dksJ13_fillNull_0 8 rfl rfl)
theorem dJ13_fillNull_11 : decode cJ13_fillNull 11 = .ok (.return_, 1) := dk_177 (dk_at dksJ13_fillNull_0 11 rfl rfl)
abbrev cJ13_getChars : ByteArray := prog_29_method_77_code
def yJ13_getChars : MethodName := ⟨RJ13, "getChars", "(III[B)I"⟩
def dkwJ13_getChars_1 : List UInt8 := [159, 0, 11, 187, 0, 52, 89, 183, 0, 66, 191, 21, 4, 172]
abbrev dktJ13_getChars_1 : List UInt8 := dkwJ13_getChars_1 ++ []
def dkwJ13_getChars_0 : List UInt8 := [27, 28, 45, 184, 0, 96, 26, 28, 45, 184, 1, 137, 54, 4, 178, 0, 44, 154, 0, 17, 27, 21, 4]
abbrev dktJ13_getChars_0 : List UInt8 := dkwJ13_getChars_0 ++ dktJ13_getChars_1
theorem dksJ13_getChars_0 : cJ13_getChars.data.toList.drop 0 = dktJ13_getChars_0 := by decide +kernel
theorem dksJ13_getChars_1 : cJ13_getChars.data.toList.drop 23 = dktJ13_getChars_1 := dk_seg dksJ13_getChars_0 23 rfl rfl
theorem dJ13_getChars_0 : decode cJ13_getChars 0 = .ok (.iload_n 1, 1) := dk_27 (dk_at dksJ13_getChars_0 0 rfl rfl)
theorem dJ13_getChars_1 : decode cJ13_getChars 1 = .ok (.iload_n 2, 1) := dk_28 (dk_at dksJ13_getChars_0 1 rfl rfl)
theorem dJ13_getChars_2 : decode cJ13_getChars 2 = .ok (.aload_n 3, 1) := dk_45 (dk_at dksJ13_getChars_0 2 rfl rfl)
theorem dJ13_getChars_3 : decode cJ13_getChars 3 = .ok (.invokestatic 96, 3) := dk_184 0 96 (dk_at dksJ13_getChars_0 3 rfl rfl)
theorem dJ13_getChars_6 : decode cJ13_getChars 6 = .ok (.iload_n 0, 1) := dk_26 (dk_at dksJ13_getChars_0 6 rfl rfl)
theorem dJ13_getChars_7 : decode cJ13_getChars 7 = .ok (.iload_n 2, 1) := dk_28 (dk_at dksJ13_getChars_0 7 rfl rfl)
theorem dJ13_getChars_8 : decode cJ13_getChars 8 = .ok (.aload_n 3, 1) := dk_45 (dk_at dksJ13_getChars_0 8 rfl rfl)
theorem dJ13_getChars_9 : decode cJ13_getChars 9 = .ok (.invokestatic 393, 3) := dk_184 1 137 (dk_at dksJ13_getChars_0 9 rfl rfl)
theorem dJ13_getChars_12 : decode cJ13_getChars 12 = .ok (.istore 4, 2) := dk_54 4 (dk_at dksJ13_getChars_0 12 rfl rfl)
theorem dJ13_getChars_14 : decode cJ13_getChars 14 = .ok (.getstatic 44, 3) := dk_178 0 44 (dk_at dksJ13_getChars_0 14 rfl rfl)
theorem dJ13_getChars_17 : decode cJ13_getChars 17 = .ok (.ifCond .ne 17, 3) := dk_154 0 17 (dk_at dksJ13_getChars_0 17 rfl rfl)
theorem dJ13_getChars_20 : decode cJ13_getChars 20 = .ok (.iload_n 1, 1) := dk_27 (dk_at dksJ13_getChars_0 20 rfl rfl)
theorem dJ13_getChars_21 : decode cJ13_getChars 21 = .ok (.iload 4, 2) := dk_21 4 (dk_at dksJ13_getChars_0 21 rfl rfl)
theorem dJ13_getChars_23 : decode cJ13_getChars 23 = .ok (.if_icmp .eq 11, 3) := dk_159 0 11 (dk_at dksJ13_getChars_1 0 rfl rfl)
theorem dJ13_getChars_26 : decode cJ13_getChars 26 = .ok (.new 52, 3) := dk_187 0 52 (dk_at dksJ13_getChars_1 3 rfl rfl)
theorem dJ13_getChars_29 : decode cJ13_getChars 29 = .ok (.dup, 1) := dk_89 (dk_at dksJ13_getChars_1 6 rfl rfl)
theorem dJ13_getChars_30 : decode cJ13_getChars 30 = .ok (.invokespecial 66, 3) := dk_183 0 66 (dk_at dksJ13_getChars_1 7 rfl rfl)
theorem dJ13_getChars_33 : decode cJ13_getChars 33 = .ok (.athrow, 1) := dk_191 (dk_at dksJ13_getChars_1 10 rfl rfl)
theorem dJ13_getChars_34 : decode cJ13_getChars 34 = .ok (.iload 4, 2) := dk_21 4 (dk_at dksJ13_getChars_1 11 rfl rfl)
theorem dJ13_getChars_36 : decode cJ13_getChars 36 = .ok (.ireturn, 1) := dk_172 (dk_at dksJ13_getChars_1 13 rfl rfl)
abbrev cJ13_getChars_2 : ByteArray := prog_29_method_89_code
def yJ13_getChars_2 : MethodName := ⟨RJ13, "getChars", "(II[B)I"⟩
def dkwJ13_getChars_2_5 : List UInt8 := [132, 5, 255, 21, 5, 16, 45, 184, 0, 111, 21, 5, 172]
abbrev dktJ13_getChars_2_5 : List UInt8 := dkwJ13_getChars_2_5 ++ []
def dkwJ13_getChars_2_4 : List UInt8 := [162, 0, 18, 44, 132, 5, 255, 21, 5, 178, 1, 151, 26, 116, 51, 184, 0, 111, 21, 6, 153, 0, 14, 44]
abbrev dktJ13_getChars_2_4 : List UInt8 := dkwJ13_getChars_2_4 ++ dktJ13_getChars_2_5
def dkwJ13_getChars_2_3 : List UInt8 := [184, 0, 111, 167, 255, 205, 44, 132, 5, 255, 21, 5, 178, 1, 147, 26, 116, 51, 184, 0, 111, 26, 16, 247]
abbrev dktJ13_getChars_2_3 : List UInt8 := dkwJ13_getChars_2_3 ++ dktJ13_getChars_2_4
def dkwJ13_getChars_2_2 : List UInt8 := [21, 5, 178, 1, 147, 21, 4, 51, 184, 0, 111, 44, 132, 5, 255, 21, 5, 178, 1, 151, 21, 4, 51]
abbrev dktJ13_getChars_2_2 : List UInt8 := dkwJ13_getChars_2_2 ++ dktJ13_getChars_2_3
def dkwJ13_getChars_2_1 : List UInt8 := [16, 156, 163, 0, 51, 26, 16, 100, 108, 62, 29, 16, 100, 104, 26, 100, 54, 4, 29, 59, 44, 132, 5, 255]
abbrev dktJ13_getChars_2_1 : List UInt8 := dkwJ13_getChars_2_1 ++ dktJ13_getChars_2_2
def dkwJ13_getChars_2_0 : List UInt8 := [27, 54, 5, 26, 156, 0, 7, 4, 167, 0, 4, 3, 54, 6, 21, 6, 154, 0, 6, 26, 116, 59, 26]
abbrev dktJ13_getChars_2_0 : List UInt8 := dkwJ13_getChars_2_0 ++ dktJ13_getChars_2_1
theorem dksJ13_getChars_2_0 : cJ13_getChars_2.data.toList.drop 0 = dktJ13_getChars_2_0 := by decide +kernel
theorem dksJ13_getChars_2_1 : cJ13_getChars_2.data.toList.drop 23 = dktJ13_getChars_2_1 := dk_seg dksJ13_getChars_2_0 23 rfl rfl
theorem dksJ13_getChars_2_2 : cJ13_getChars_2.data.toList.drop 47 = dktJ13_getChars_2_2 := dk_seg dksJ13_getChars_2_1 24 rfl rfl
theorem dksJ13_getChars_2_3 : cJ13_getChars_2.data.toList.drop 70 = dktJ13_getChars_2_3 := dk_seg dksJ13_getChars_2_2 23 rfl rfl
theorem dksJ13_getChars_2_4 : cJ13_getChars_2.data.toList.drop 94 = dktJ13_getChars_2_4 := dk_seg dksJ13_getChars_2_3 24 rfl rfl
theorem dksJ13_getChars_2_5 : cJ13_getChars_2.data.toList.drop 118 = dktJ13_getChars_2_5 := dk_seg dksJ13_getChars_2_4 24 rfl rfl
theorem dJ13_getChars_2_0 : decode cJ13_getChars_2 0 = .ok (.iload_n 1, 1) := dk_27 (dk_at dksJ13_getChars_2_0 0 rfl rfl)
theorem dJ13_getChars_2_1 : decode cJ13_getChars_2 1 = .ok (.istore 5, 2) := dk_54 5 (dk_at dksJ13_getChars_2_0 1 rfl rfl)
theorem dJ13_getChars_2_3 : decode cJ13_getChars_2 3 = .ok (.iload_n 0, 1) := dk_26 (dk_at dksJ13_getChars_2_0 3 rfl rfl)
theorem dJ13_getChars_2_4 : decode cJ13_getChars_2 4 = .ok (.ifCond .ge 7, 3) := dk_156 0 7 (dk_at dksJ13_getChars_2_0 4 rfl rfl)
theorem dJ13_getChars_2_7 : decode cJ13_getChars_2 7 = .ok (.iconst 1, 1) := dk_4 (dk_at dksJ13_getChars_2_0 7 rfl rfl)
theorem dJ13_getChars_2_8 : decode cJ13_getChars_2 8 = .ok (.goto 4, 3) := dk_167 0 4 (dk_at dksJ13_getChars_2_0 8 rfl rfl)
theorem dJ13_getChars_2_11 : decode cJ13_getChars_2 11 = .ok (.iconst 0, 1) := dk_3 (dk_at dksJ13_getChars_2_0 11 rfl rfl)
theorem dJ13_getChars_2_12 : decode cJ13_getChars_2 12 = .ok (.istore 6, 2) := dk_54 6 (dk_at dksJ13_getChars_2_0 12 rfl rfl)
theorem dJ13_getChars_2_14 : decode cJ13_getChars_2 14 = .ok (.iload 6, 2) := dk_21 6 (dk_at dksJ13_getChars_2_0 14 rfl rfl)
theorem dJ13_getChars_2_16 : decode cJ13_getChars_2 16 = .ok (.ifCond .ne 6, 3) := dk_154 0 6 (dk_at dksJ13_getChars_2_0 16 rfl rfl)
theorem dJ13_getChars_2_19 : decode cJ13_getChars_2 19 = .ok (.iload_n 0, 1) := dk_26 (dk_at dksJ13_getChars_2_0 19 rfl rfl)
theorem dJ13_getChars_2_20 : decode cJ13_getChars_2 20 = .ok (.ineg, 1) := dk_116 (dk_at dksJ13_getChars_2_0 20 rfl rfl)
theorem dJ13_getChars_2_21 : decode cJ13_getChars_2 21 = .ok (.istore_n 0, 1) := dk_59 (dk_at dksJ13_getChars_2_0 21 rfl rfl)
theorem dJ13_getChars_2_22 : decode cJ13_getChars_2 22 = .ok (.iload_n 0, 1) := dk_26 (dk_at dksJ13_getChars_2_0 22 rfl rfl)
theorem dJ13_getChars_2_23 : decode cJ13_getChars_2 23 = .ok (.bipush (-100), 2) := dk_16 156 (dk_at dksJ13_getChars_2_1 0 rfl rfl)
theorem dJ13_getChars_2_25 : decode cJ13_getChars_2 25 = .ok (.if_icmp .gt 51, 3) := dk_163 0 51 (dk_at dksJ13_getChars_2_1 2 rfl rfl)
theorem dJ13_getChars_2_28 : decode cJ13_getChars_2 28 = .ok (.iload_n 0, 1) := dk_26 (dk_at dksJ13_getChars_2_1 5 rfl rfl)
theorem dJ13_getChars_2_29 : decode cJ13_getChars_2 29 = .ok (.bipush 100, 2) := dk_16 100 (dk_at dksJ13_getChars_2_1 6 rfl rfl)
theorem dJ13_getChars_2_31 : decode cJ13_getChars_2 31 = .ok (.idiv, 1) := dk_108 (dk_at dksJ13_getChars_2_1 8 rfl rfl)
theorem dJ13_getChars_2_32 : decode cJ13_getChars_2 32 = .ok (.istore_n 3, 1) := dk_62 (dk_at dksJ13_getChars_2_1 9 rfl rfl)
theorem dJ13_getChars_2_33 : decode cJ13_getChars_2 33 = .ok (.iload_n 3, 1) := dk_29 (dk_at dksJ13_getChars_2_1 10 rfl rfl)
theorem dJ13_getChars_2_34 : decode cJ13_getChars_2 34 = .ok (.bipush 100, 2) := dk_16 100 (dk_at dksJ13_getChars_2_1 11 rfl rfl)
theorem dJ13_getChars_2_36 : decode cJ13_getChars_2 36 = .ok (.imul, 1) := dk_104 (dk_at dksJ13_getChars_2_1 13 rfl rfl)
theorem dJ13_getChars_2_37 : decode cJ13_getChars_2 37 = .ok (.iload_n 0, 1) := dk_26 (dk_at dksJ13_getChars_2_1 14 rfl rfl)
theorem dJ13_getChars_2_38 : decode cJ13_getChars_2 38 = .ok (.isub, 1) := dk_100 (dk_at dksJ13_getChars_2_1 15 rfl rfl)
theorem dJ13_getChars_2_39 : decode cJ13_getChars_2 39 = .ok (.istore 4, 2) := dk_54 4 (dk_at dksJ13_getChars_2_1 16 rfl rfl)
theorem dJ13_getChars_2_41 : decode cJ13_getChars_2 41 = .ok (.iload_n 3, 1) := dk_29 (dk_at dksJ13_getChars_2_1 18 rfl rfl)
theorem dJ13_getChars_2_42 : decode cJ13_getChars_2 42 = .ok (.istore_n 0, 1) := dk_59 (dk_at dksJ13_getChars_2_1 19 rfl rfl)
theorem dJ13_getChars_2_43 : decode cJ13_getChars_2 43 = .ok (.aload_n 2, 1) := dk_44 (dk_at dksJ13_getChars_2_1 20 rfl rfl)
theorem dJ13_getChars_2_44 : decode cJ13_getChars_2 44 = .ok (.iinc 5 (-1), 3) := dk_132 5 255 (dk_at dksJ13_getChars_2_1 21 rfl rfl)
theorem dJ13_getChars_2_47 : decode cJ13_getChars_2 47 = .ok (.iload 5, 2) := dk_21 5 (dk_at dksJ13_getChars_2_2 0 rfl rfl)
theorem dJ13_getChars_2_49 : decode cJ13_getChars_2 49 = .ok (.getstatic 403, 3) := dk_178 1 147 (dk_at dksJ13_getChars_2_2 2 rfl rfl)
theorem dJ13_getChars_2_52 : decode cJ13_getChars_2 52 = .ok (.iload 4, 2) := dk_21 4 (dk_at dksJ13_getChars_2_2 5 rfl rfl)
theorem dJ13_getChars_2_54 : decode cJ13_getChars_2 54 = .ok (.baload, 1) := dk_51 (dk_at dksJ13_getChars_2_2 7 rfl rfl)
theorem dJ13_getChars_2_55 : decode cJ13_getChars_2 55 = .ok (.invokestatic 111, 3) := dk_184 0 111 (dk_at dksJ13_getChars_2_2 8 rfl rfl)
theorem dJ13_getChars_2_58 : decode cJ13_getChars_2 58 = .ok (.aload_n 2, 1) := dk_44 (dk_at dksJ13_getChars_2_2 11 rfl rfl)
theorem dJ13_getChars_2_59 : decode cJ13_getChars_2 59 = .ok (.iinc 5 (-1), 3) := dk_132 5 255 (dk_at dksJ13_getChars_2_2 12 rfl rfl)
theorem dJ13_getChars_2_62 : decode cJ13_getChars_2 62 = .ok (.iload 5, 2) := dk_21 5 (dk_at dksJ13_getChars_2_2 15 rfl rfl)
theorem dJ13_getChars_2_64 : decode cJ13_getChars_2 64 = .ok (.getstatic 407, 3) := dk_178 1 151 (dk_at dksJ13_getChars_2_2 17 rfl rfl)
theorem dJ13_getChars_2_67 : decode cJ13_getChars_2 67 = .ok (.iload 4, 2) := dk_21 4 (dk_at dksJ13_getChars_2_2 20 rfl rfl)
theorem dJ13_getChars_2_69 : decode cJ13_getChars_2 69 = .ok (.baload, 1) := dk_51 (dk_at dksJ13_getChars_2_2 22 rfl rfl)
theorem dJ13_getChars_2_70 : decode cJ13_getChars_2 70 = .ok (.invokestatic 111, 3) := dk_184 0 111 (dk_at dksJ13_getChars_2_3 0 rfl rfl)
theorem dJ13_getChars_2_73 : decode cJ13_getChars_2 73 = .ok (.goto (-51), 3) := dk_167 255 205 (dk_at dksJ13_getChars_2_3 3 rfl rfl)
theorem dJ13_getChars_2_76 : decode cJ13_getChars_2 76 = .ok (.aload_n 2, 1) := dk_44 (dk_at dksJ13_getChars_2_3 6 rfl rfl)
theorem dJ13_getChars_2_77 : decode cJ13_getChars_2 77 = .ok (.iinc 5 (-1), 3) := dk_132 5 255 (dk_at dksJ13_getChars_2_3 7 rfl rfl)
theorem dJ13_getChars_2_80 : decode cJ13_getChars_2 80 = .ok (.iload 5, 2) := dk_21 5 (dk_at dksJ13_getChars_2_3 10 rfl rfl)
theorem dJ13_getChars_2_82 : decode cJ13_getChars_2 82 = .ok (.getstatic 403, 3) := dk_178 1 147 (dk_at dksJ13_getChars_2_3 12 rfl rfl)
theorem dJ13_getChars_2_85 : decode cJ13_getChars_2 85 = .ok (.iload_n 0, 1) := dk_26 (dk_at dksJ13_getChars_2_3 15 rfl rfl)
theorem dJ13_getChars_2_86 : decode cJ13_getChars_2 86 = .ok (.ineg, 1) := dk_116 (dk_at dksJ13_getChars_2_3 16 rfl rfl)
theorem dJ13_getChars_2_87 : decode cJ13_getChars_2 87 = .ok (.baload, 1) := dk_51 (dk_at dksJ13_getChars_2_3 17 rfl rfl)
theorem dJ13_getChars_2_88 : decode cJ13_getChars_2 88 = .ok (.invokestatic 111, 3) := dk_184 0 111 (dk_at dksJ13_getChars_2_3 18 rfl rfl)
theorem dJ13_getChars_2_91 : decode cJ13_getChars_2 91 = .ok (.iload_n 0, 1) := dk_26 (dk_at dksJ13_getChars_2_3 21 rfl rfl)
theorem dJ13_getChars_2_92 : decode cJ13_getChars_2 92 = .ok (.bipush (-9), 2) := dk_16 247 (dk_at dksJ13_getChars_2_3 22 rfl rfl)
theorem dJ13_getChars_2_94 : decode cJ13_getChars_2 94 = .ok (.if_icmp .ge 18, 3) := dk_162 0 18 (dk_at dksJ13_getChars_2_4 0 rfl rfl)
theorem dJ13_getChars_2_97 : decode cJ13_getChars_2 97 = .ok (.aload_n 2, 1) := dk_44 (dk_at dksJ13_getChars_2_4 3 rfl rfl)
theorem dJ13_getChars_2_98 : decode cJ13_getChars_2 98 = .ok (.iinc 5 (-1), 3) := dk_132 5 255 (dk_at dksJ13_getChars_2_4 4 rfl rfl)
theorem dJ13_getChars_2_101 : decode cJ13_getChars_2 101 = .ok (.iload 5, 2) := dk_21 5 (dk_at dksJ13_getChars_2_4 7 rfl rfl)
theorem dJ13_getChars_2_103 : decode cJ13_getChars_2 103 = .ok (.getstatic 407, 3) := dk_178 1 151 (dk_at dksJ13_getChars_2_4 9 rfl rfl)
theorem dJ13_getChars_2_106 : decode cJ13_getChars_2 106 = .ok (.iload_n 0, 1) := dk_26 (dk_at dksJ13_getChars_2_4 12 rfl rfl)
theorem dJ13_getChars_2_107 : decode cJ13_getChars_2 107 = .ok (.ineg, 1) := dk_116 (dk_at dksJ13_getChars_2_4 13 rfl rfl)
theorem dJ13_getChars_2_108 : decode cJ13_getChars_2 108 = .ok (.baload, 1) := dk_51 (dk_at dksJ13_getChars_2_4 14 rfl rfl)
theorem dJ13_getChars_2_109 : decode cJ13_getChars_2 109 = .ok (.invokestatic 111, 3) := dk_184 0 111 (dk_at dksJ13_getChars_2_4 15 rfl rfl)
theorem dJ13_getChars_2_112 : decode cJ13_getChars_2 112 = .ok (.iload 6, 2) := dk_21 6 (dk_at dksJ13_getChars_2_4 18 rfl rfl)
theorem dJ13_getChars_2_114 : decode cJ13_getChars_2 114 = .ok (.ifCond .eq 14, 3) := dk_153 0 14 (dk_at dksJ13_getChars_2_4 20 rfl rfl)
theorem dJ13_getChars_2_117 : decode cJ13_getChars_2 117 = .ok (.aload_n 2, 1) := dk_44 (dk_at dksJ13_getChars_2_4 23 rfl rfl)
theorem dJ13_getChars_2_118 : decode cJ13_getChars_2 118 = .ok (.iinc 5 (-1), 3) := dk_132 5 255 (dk_at dksJ13_getChars_2_5 0 rfl rfl)
theorem dJ13_getChars_2_121 : decode cJ13_getChars_2 121 = .ok (.iload 5, 2) := dk_21 5 (dk_at dksJ13_getChars_2_5 3 rfl rfl)
theorem dJ13_getChars_2_123 : decode cJ13_getChars_2 123 = .ok (.bipush 45, 2) := dk_16 45 (dk_at dksJ13_getChars_2_5 5 rfl rfl)
theorem dJ13_getChars_2_125 : decode cJ13_getChars_2 125 = .ok (.invokestatic 111, 3) := dk_184 0 111 (dk_at dksJ13_getChars_2_5 7 rfl rfl)
theorem dJ13_getChars_2_128 : decode cJ13_getChars_2 128 = .ok (.iload 5, 2) := dk_21 5 (dk_at dksJ13_getChars_2_5 10 rfl rfl)
theorem dJ13_getChars_2_130 : decode cJ13_getChars_2 130 = .ok (.ireturn, 1) := dk_172 (dk_at dksJ13_getChars_2_5 12 rfl rfl)
theorem q81 : (Jvm.Cond.initialized "java/lang/StringUTF16") ∈ lw_all := lw_g (lw_at lw_m1 18 rfl) rfl
theorem q382 : (Jvm.Cond.static ({ cls := "java/lang/StringUTF16", name := "newBytesFor", desc := "(I)[B" } : Jvm.MethodName)) ∈ lw_all := lw_g (lw_at lw_m2 79 rfl) rfl
theorem q383 : (Jvm.Cond.code ({ cls := "java/lang/StringUTF16", name := "newBytesFor", desc := "(I)[B" } : Jvm.MethodName) prog_29_method_2_code (1 : Nat) (Option.some (Jvm.ClassFile.FieldType.array Jvm.ClassFile.FieldType.byte))) ∈ lw_all := lw_g (lw_at lw_m2 80 rfl) rfl
theorem q384 : (Jvm.Cond.methodLink "java/lang/StringUTF16" (11 : Nat) ({ cls := "java/lang/StringUTF16", name := "newBytesLength", desc := "(I)I" } : Jvm.MethodName)) ∈ lw_all := lw_g (lw_at lw_m2 81 rfl) rfl
theorem q385 : (Jvm.Cond.static ({ cls := "java/lang/StringUTF16", name := "newBytesLength", desc := "(I)I" } : Jvm.MethodName)) ∈ lw_all := lw_g (lw_at lw_m2 82 rfl) rfl
theorem q386 : (Jvm.Cond.code ({ cls := "java/lang/StringUTF16", name := "newBytesLength", desc := "(I)I" } : Jvm.MethodName) prog_29_method_3_code (1 : Nat) (Option.some Jvm.ClassFile.FieldType.int)) ∈ lw_all := lw_g (lw_at lw_m2 83 rfl) rfl
theorem q387 : (Jvm.Cond.constant "java/lang/StringUTF16" (20 : Nat) (1073741823 : Int32)) ∈ lw_all := lw_g (lw_at lw_m2 84 rfl) rfl
theorem q695 : (Jvm.Cond.static ({ cls := "java/lang/StringUTF16", name := "putCharsAt", desc := "([BICCCC)I" } : Jvm.MethodName)) ∈ lw_all := lw_g (lw_at lw_m3 152 rfl) rfl
theorem q696 : (Jvm.Cond.code ({ cls := "java/lang/StringUTF16", name := "putCharsAt", desc := "([BICCCC)I" } : Jvm.MethodName) prog_29_method_81_code (7 : Nat) (Option.some Jvm.ClassFile.FieldType.int)) ∈ lw_all := lw_g (lw_at lw_m3 153 rfl) rfl
theorem q697 : (Jvm.Cond.methodLink "java/lang/StringUTF16" (96 : Nat) ({ cls := "java/lang/StringUTF16", name := "checkBoundsBeginEnd", desc := "(II[B)V" } : Jvm.MethodName)) ∈ lw_all := lw_g (lw_at lw_m3 154 rfl) rfl
theorem q698 : (Jvm.Cond.static ({ cls := "java/lang/StringUTF16", name := "checkBoundsBeginEnd", desc := "(II[B)V" } : Jvm.MethodName)) ∈ lw_all := lw_g (lw_at lw_m3 155 rfl) rfl
theorem q699 : (Jvm.Cond.code ({ cls := "java/lang/StringUTF16", name := "checkBoundsBeginEnd", desc := "(II[B)V" } : Jvm.MethodName) prog_29_method_93_code (3 : Nat) (Option.none : Option Jvm.ClassFile.FieldType)) ∈ lw_all := lw_g (lw_at lw_m3 156 rfl) rfl
theorem q700 : (Jvm.Cond.methodLink "java/lang/StringUTF16" (48 : Nat) ({ cls := "java/lang/StringUTF16", name := "length", desc := "([B)I" } : Jvm.MethodName)) ∈ lw_all := lw_g (lw_at lw_m3 157 rfl) rfl
theorem q701 : (Jvm.Cond.static ({ cls := "java/lang/StringUTF16", name := "length", desc := "([B)I" } : Jvm.MethodName)) ∈ lw_all := lw_g (lw_at lw_m3 158 rfl) rfl
theorem q702 : (Jvm.Cond.code ({ cls := "java/lang/StringUTF16", name := "length", desc := "([B)I" } : Jvm.MethodName) prog_29_method_6_code (1 : Nat) (Option.some Jvm.ClassFile.FieldType.int)) ∈ lw_all := lw_g (lw_at lw_m3 159 rfl) rfl
theorem q703 : (Jvm.Cond.methodLink "java/lang/StringUTF16" (241 : Nat) ({ cls := "java/lang/String", name := "checkBoundsBeginEnd", desc := "(III)V" } : Jvm.MethodName)) ∈ lw_all := lw_g (lw_at lw_m3 160 rfl) rfl
theorem q711 : (Jvm.Cond.methodLink "java/lang/StringUTF16" (111 : Nat) ({ cls := "java/lang/StringUTF16", name := "putChar", desc := "([BII)V" } : Jvm.MethodName)) ∈ lw_all := lw_g (lw_at lw_m3 168 rfl) rfl
theorem q712 : (Jvm.Cond.static ({ cls := "java/lang/StringUTF16", name := "putChar", desc := "([BII)V" } : Jvm.MethodName)) ∈ lw_all := lw_g (lw_at lw_m3 169 rfl) rfl
theorem q713 : (Jvm.Cond.code ({ cls := "java/lang/StringUTF16", name := "putChar", desc := "([BII)V" } : Jvm.MethodName) prog_29_method_4_code (3 : Nat) (Option.none : Option Jvm.ClassFile.FieldType)) ∈ lw_all := lw_g (lw_at lw_m3 170 rfl) rfl
theorem q714 : (Jvm.Cond.fieldLink "java/lang/StringUTF16" (44 : Nat) "java/lang/StringUTF16" "$assertionsDisabled" "Z") ∈ lw_all := lw_g (lw_at lw_m3 171 rfl) rfl
theorem q715 : (Jvm.Cond.laysStatic "java/lang/StringUTF16" "$assertionsDisabled" "Z") ∈ lw_tbl := lw_at lw_m3 172 rfl
theorem q716 : (Jvm.Cond.fieldLink "java/lang/StringUTF16" (59 : Nat) "java/lang/StringUTF16" "HI_BYTE_SHIFT" "I") ∈ lw_all := lw_g (lw_at lw_m3 173 rfl) rfl
theorem q717 : (Jvm.Cond.laysStatic "java/lang/StringUTF16" "HI_BYTE_SHIFT" "I") ∈ lw_tbl := lw_at lw_m3 174 rfl
theorem q718 : (Jvm.Cond.fieldLink "java/lang/StringUTF16" (63 : Nat) "java/lang/StringUTF16" "LO_BYTE_SHIFT" "I") ∈ lw_all := lw_g (lw_at lw_m3 175 rfl) rfl
theorem q719 : (Jvm.Cond.laysStatic "java/lang/StringUTF16" "LO_BYTE_SHIFT" "I") ∈ lw_tbl := lw_at lw_m3 176 rfl
theorem q746 : (Jvm.Cond.static ({ cls := "java/lang/StringUTF16", name := "inflate", desc := "([BI[BII)V" } : Jvm.MethodName)) ∈ lw_all := lw_g (lw_at lw_m3 203 rfl) rfl
theorem q747 : (Jvm.Cond.code ({ cls := "java/lang/StringUTF16", name := "inflate", desc := "([BI[BII)V" } : Jvm.MethodName) prog_29_method_86_code (6 : Nat) (Option.none : Option Jvm.ClassFile.FieldType)) ∈ lw_all := lw_g (lw_at lw_m3 204 rfl) rfl
theorem q748 : (Jvm.Cond.methodLink "java/lang/StringUTF16" (173 : Nat) ({ cls := "java/lang/StringUTF16", name := "checkBoundsOffCount", desc := "(II[B)V" } : Jvm.MethodName)) ∈ lw_all := lw_g (lw_at lw_m3 205 rfl) rfl
theorem q749 : (Jvm.Cond.static ({ cls := "java/lang/StringUTF16", name := "checkBoundsOffCount", desc := "(II[B)V" } : Jvm.MethodName)) ∈ lw_all := lw_g (lw_at lw_m3 206 rfl) rfl
theorem q750 : (Jvm.Cond.code ({ cls := "java/lang/StringUTF16", name := "checkBoundsOffCount", desc := "(II[B)V" } : Jvm.MethodName) prog_29_method_94_code (3 : Nat) (Option.none : Option Jvm.ClassFile.FieldType)) ∈ lw_all := lw_g (lw_at lw_m3 207 rfl) rfl
theorem q751 : (Jvm.Cond.methodLink "java/lang/StringUTF16" (419 : Nat) ({ cls := "java/lang/String", name := "checkBoundsOffCount", desc := "(III)I" } : Jvm.MethodName)) ∈ lw_all := lw_g (lw_at lw_m3 208 rfl) rfl
theorem q801 : (Jvm.Cond.static ({ cls := "java/lang/StringUTF16", name := "compress", desc := "([BII)[B" } : Jvm.MethodName)) ∈ lw_all := lw_g (lw_at lw_m4 18 rfl) rfl
theorem q802 : (Jvm.Cond.code ({ cls := "java/lang/StringUTF16", name := "compress", desc := "([BII)[B" } : Jvm.MethodName) prog_29_method_17_code (6 : Nat) (Option.some (Jvm.ClassFile.FieldType.array Jvm.ClassFile.FieldType.byte))) ∈ lw_all := lw_g (lw_at lw_m4 19 rfl) rfl
theorem q803 : (Jvm.Cond.methodLink "java/lang/StringUTF16" (123 : Nat) ({ cls := "java/lang/StringUTF16", name := "compress", desc := "([BI[BII)I" } : Jvm.MethodName)) ∈ lw_all := lw_g (lw_at lw_m4 20 rfl) rfl
theorem q804 : (Jvm.Cond.static ({ cls := "java/lang/StringUTF16", name := "compress", desc := "([BI[BII)I" } : Jvm.MethodName)) ∈ lw_all := lw_g (lw_at lw_m4 21 rfl) rfl
theorem q805 : (Jvm.Cond.code ({ cls := "java/lang/StringUTF16", name := "compress", desc := "([BI[BII)I" } : Jvm.MethodName) prog_29_method_22_code (7 : Nat) (Option.some Jvm.ClassFile.FieldType.int)) ∈ lw_all := lw_g (lw_at lw_m4 22 rfl) rfl
theorem q806 : (Jvm.Cond.methodLink "java/lang/StringUTF16" (71 : Nat) ({ cls := "java/lang/StringUTF16", name := "getChar", desc := "([BI)C" } : Jvm.MethodName)) ∈ lw_all := lw_g (lw_at lw_m4 23 rfl) rfl
theorem q807 : (Jvm.Cond.static ({ cls := "java/lang/StringUTF16", name := "getChar", desc := "([BI)C" } : Jvm.MethodName)) ∈ lw_all := lw_g (lw_at lw_m4 24 rfl) rfl
theorem q808 : (Jvm.Cond.code ({ cls := "java/lang/StringUTF16", name := "getChar", desc := "([BI)C" } : Jvm.MethodName) prog_29_method_5_code (2 : Nat) (Option.some Jvm.ClassFile.FieldType.char)) ∈ lw_all := lw_g (lw_at lw_m4 25 rfl) rfl
theorem q809 : (Jvm.Cond.methodLink "java/lang/StringUTF16" (126 : Nat) ({ cls := "java/util/Arrays", name := "copyOfRange", desc := "([BII)[B" } : Jvm.MethodName)) ∈ lw_all := lw_g (lw_at lw_m4 26 rfl) rfl
theorem q811 : (Jvm.Cond.static ({ cls := "java/lang/StringUTF16", name := "coderFromArrayLen", desc := "([BI)B" } : Jvm.MethodName)) ∈ lw_all := lw_g (lw_at lw_m4 28 rfl) rfl
theorem q812 : (Jvm.Cond.code ({ cls := "java/lang/StringUTF16", name := "coderFromArrayLen", desc := "([BI)B" } : Jvm.MethodName) prog_29_method_15_code (2 : Nat) (Option.some Jvm.ClassFile.FieldType.byte)) ∈ lw_all := lw_g (lw_at lw_m4 29 rfl) rfl
theorem q1441 : (Jvm.Cond.static ({ cls := "java/lang/StringUTF16", name := "putCharSB", desc := "([BII)V" } : Jvm.MethodName)) ∈ lw_all := lw_g (lw_at lw_m6 178 rfl) rfl
theorem q1442 : (Jvm.Cond.code ({ cls := "java/lang/StringUTF16", name := "putCharSB", desc := "([BII)V" } : Jvm.MethodName) prog_29_method_71_code (3 : Nat) (Option.none : Option Jvm.ClassFile.FieldType)) ∈ lw_all := lw_g (lw_at lw_m6 179 rfl) rfl
theorem q1443 : (Jvm.Cond.methodLink "java/lang/StringUTF16" (67 : Nat) ({ cls := "java/lang/StringUTF16", name := "checkIndex", desc := "(I[B)V" } : Jvm.MethodName)) ∈ lw_all := lw_g (lw_at lw_m6 180 rfl) rfl
theorem q1444 : (Jvm.Cond.static ({ cls := "java/lang/StringUTF16", name := "checkIndex", desc := "(I[B)V" } : Jvm.MethodName)) ∈ lw_all := lw_g (lw_at lw_m6 181 rfl) rfl
theorem q1445 : (Jvm.Cond.code ({ cls := "java/lang/StringUTF16", name := "checkIndex", desc := "(I[B)V" } : Jvm.MethodName) prog_29_method_91_code (2 : Nat) (Option.none : Option Jvm.ClassFile.FieldType)) ∈ lw_all := lw_g (lw_at lw_m6 182 rfl) rfl
theorem q1446 : (Jvm.Cond.methodLink "java/lang/StringUTF16" (414 : Nat) ({ cls := "java/lang/String", name := "checkIndex", desc := "(II)V" } : Jvm.MethodName)) ∈ lw_all := lw_g (lw_at lw_m6 183 rfl) rfl
theorem q1530 : (Jvm.Cond.static ({ cls := "java/lang/StringUTF16", name := "charAt", desc := "([BI)C" } : Jvm.MethodName)) ∈ lw_all := lw_g (lw_at lw_m7 27 rfl) rfl
theorem q1531 : (Jvm.Cond.code ({ cls := "java/lang/StringUTF16", name := "charAt", desc := "([BI)C" } : Jvm.MethodName) prog_29_method_83_code (2 : Nat) (Option.some Jvm.ClassFile.FieldType.char)) ∈ lw_all := lw_g (lw_at lw_m7 28 rfl) rfl
theorem q1639 : (Jvm.Cond.static ({ cls := "java/lang/StringUTF16", name := "hashCode", desc := "([B)I" } : Jvm.MethodName)) ∈ lw_all := lw_g (lw_at lw_m7 136 rfl) rfl
theorem q1640 : (Jvm.Cond.code ({ cls := "java/lang/StringUTF16", name := "hashCode", desc := "([B)I" } : Jvm.MethodName) prog_29_method_39_code (1 : Nat) (Option.some Jvm.ClassFile.FieldType.int)) ∈ lw_all := lw_g (lw_at lw_m7 137 rfl) rfl
theorem q1641 : (Jvm.Cond.methodLink "java/lang/StringUTF16" (220 : Nat) ({ cls := "jdk/internal/util/ArraysSupport", name := "vectorizedHashCode", desc := "(Ljava/lang/Object;IIII)I" } : Jvm.MethodName)) ∈ lw_all := lw_g (lw_at lw_m7 138 rfl) rfl
theorem q1718 : (Jvm.Cond.static ({ cls := "java/lang/StringUTF16", name := "fillNull", desc := "([BII)V" } : Jvm.MethodName)) ∈ lw_all := lw_g (lw_at lw_m7 215 rfl) rfl
theorem q1719 : (Jvm.Cond.code ({ cls := "java/lang/StringUTF16", name := "fillNull", desc := "([BII)V" } : Jvm.MethodName) prog_29_method_70_code (3 : Nat) (Option.none : Option Jvm.ClassFile.FieldType)) ∈ lw_all := lw_g (lw_at lw_m7 216 rfl) rfl
theorem q1720 : (Jvm.Cond.methodLink "java/lang/StringUTF16" (380 : Nat) ({ cls := "java/util/Arrays", name := "fill", desc := "([BIIB)V" } : Jvm.MethodName)) ∈ lw_all := lw_g (lw_at lw_m7 217 rfl) rfl
theorem q1751 : (Jvm.Cond.static ({ cls := "java/lang/StringUTF16", name := "getChars", desc := "(III[B)I" } : Jvm.MethodName)) ∈ lw_all := lw_g (lw_at lw_m8 8 rfl) rfl
theorem q1752 : (Jvm.Cond.code ({ cls := "java/lang/StringUTF16", name := "getChars", desc := "(III[B)I" } : Jvm.MethodName) prog_29_method_77_code (5 : Nat) (Option.some Jvm.ClassFile.FieldType.int)) ∈ lw_all := lw_g (lw_at lw_m8 9 rfl) rfl
theorem q1753 : (Jvm.Cond.methodLink "java/lang/StringUTF16" (393 : Nat) ({ cls := "java/lang/StringUTF16", name := "getChars", desc := "(II[B)I" } : Jvm.MethodName)) ∈ lw_all := lw_g (lw_at lw_m8 10 rfl) rfl
theorem q1754 : (Jvm.Cond.static ({ cls := "java/lang/StringUTF16", name := "getChars", desc := "(II[B)I" } : Jvm.MethodName)) ∈ lw_all := lw_g (lw_at lw_m8 11 rfl) rfl
theorem q1755 : (Jvm.Cond.code ({ cls := "java/lang/StringUTF16", name := "getChars", desc := "(II[B)I" } : Jvm.MethodName) prog_29_method_89_code (7 : Nat) (Option.some Jvm.ClassFile.FieldType.int)) ∈ lw_all := lw_g (lw_at lw_m8 12 rfl) rfl
theorem q1756 : (Jvm.Cond.fieldLink "java/lang/StringUTF16" (403 : Nat) "java/lang/Integer" "DigitOnes" "[B") ∈ lw_all := lw_g (lw_at lw_m8 13 rfl) rfl
theorem q1757 : (Jvm.Cond.fieldLink "java/lang/StringUTF16" (407 : Nat) "java/lang/Integer" "DigitTens" "[B") ∈ lw_all := lw_g (lw_at lw_m8 14 rfl) rfl

/-! java/util/Objects -/
set_option maxRecDepth 100000
def RJ14 : String := "java/util/Objects"
abbrev cJ14_checkIndex : ByteArray := prog_55_method_17_code
def yJ14_checkIndex : MethodName := ⟨RJ14, "checkIndex", "(II)I"⟩
def dkwJ14_checkIndex_0 : List UInt8 := [26, 27, 1, 184, 0, 105, 172]
abbrev dktJ14_checkIndex_0 : List UInt8 := dkwJ14_checkIndex_0 ++ []
theorem dksJ14_checkIndex_0 : cJ14_checkIndex.data.toList.drop 0 = dktJ14_checkIndex_0 := by decide +kernel
theorem dJ14_checkIndex_0 : decode cJ14_checkIndex 0 = .ok (.iload_n 0, 1) := dk_26 (dk_at dksJ14_checkIndex_0 0 rfl rfl)
theorem dJ14_checkIndex_1 : decode cJ14_checkIndex 1 = .ok (.iload_n 1, 1) := dk_27 (dk_at dksJ14_checkIndex_0 1 rfl rfl)
theorem dJ14_checkIndex_2 : decode cJ14_checkIndex 2 = .ok (.aconst_null, 1) := dk_1 (dk_at dksJ14_checkIndex_0 2 rfl rfl)
theorem dJ14_checkIndex_3 : decode cJ14_checkIndex 3 = .ok (.invokestatic 105, 3) := dk_184 0 105 (dk_at dksJ14_checkIndex_0 3 rfl rfl)
theorem dJ14_checkIndex_6 : decode cJ14_checkIndex 6 = .ok (.ireturn, 1) := dk_172 (dk_at dksJ14_checkIndex_0 6 rfl rfl)
theorem q83 : (Jvm.Cond.initialized "java/util/Objects") ∈ lw_all := lw_g (lw_at lw_m1 20 rfl) rfl
theorem q445 : (Jvm.Cond.static ({ cls := "java/util/Objects", name := "checkIndex", desc := "(II)I" } : Jvm.MethodName)) ∈ lw_all := lw_g (lw_at lw_m2 142 rfl) rfl
theorem q446 : (Jvm.Cond.code ({ cls := "java/util/Objects", name := "checkIndex", desc := "(II)I" } : Jvm.MethodName) prog_55_method_17_code (2 : Nat) (Option.some Jvm.ClassFile.FieldType.int)) ∈ lw_all := lw_g (lw_at lw_m2 143 rfl) rfl
theorem q447 : (Jvm.Cond.methodLink "java/util/Objects" (105 : Nat) ({ cls := "jdk/internal/util/Preconditions", name := "checkIndex", desc := "(IILjava/util/function/BiFunction;)I" } : Jvm.MethodName)) ∈ lw_all := lw_g (lw_at lw_m2 144 rfl) rfl

/-! jdk/internal/util/Preconditions -/
set_option maxRecDepth 100000
def RJ15 : String := "jdk/internal/util/Preconditions"
abbrev cJ15_checkIndex : ByteArray := prog_61_method_11_code
def yJ15_checkIndex : MethodName := ⟨RJ15, "checkIndex", "(IILjava/util/function/BiFunction;)I"⟩
def dkwJ15_checkIndex_0 : List UInt8 := [26, 155, 0, 8, 26, 27, 161, 0, 10, 44, 26, 27, 184, 0, 95, 191, 26, 172]
abbrev dktJ15_checkIndex_0 : List UInt8 := dkwJ15_checkIndex_0 ++ []
theorem dksJ15_checkIndex_0 : cJ15_checkIndex.data.toList.drop 0 = dktJ15_checkIndex_0 := by decide +kernel
theorem dJ15_checkIndex_0 : decode cJ15_checkIndex 0 = .ok (.iload_n 0, 1) := dk_26 (dk_at dksJ15_checkIndex_0 0 rfl rfl)
theorem dJ15_checkIndex_1 : decode cJ15_checkIndex 1 = .ok (.ifCond .lt 8, 3) := dk_155 0 8 (dk_at dksJ15_checkIndex_0 1 rfl rfl)
theorem dJ15_checkIndex_4 : decode cJ15_checkIndex 4 = .ok (.iload_n 0, 1) := dk_26 (dk_at dksJ15_checkIndex_0 4 rfl rfl)
theorem dJ15_checkIndex_5 : decode cJ15_checkIndex 5 = .ok (.iload_n 1, 1) := dk_27 (dk_at dksJ15_checkIndex_0 5 rfl rfl)
theorem dJ15_checkIndex_6 : decode cJ15_checkIndex 6 = .ok (.if_icmp .lt 10, 3) := dk_161 0 10 (dk_at dksJ15_checkIndex_0 6 rfl rfl)
theorem dJ15_checkIndex_9 : decode cJ15_checkIndex 9 = .ok (.aload_n 2, 1) := dk_44 (dk_at dksJ15_checkIndex_0 9 rfl rfl)
theorem dJ15_checkIndex_10 : decode cJ15_checkIndex 10 = .ok (.iload_n 0, 1) := dk_26 (dk_at dksJ15_checkIndex_0 10 rfl rfl)
theorem dJ15_checkIndex_11 : decode cJ15_checkIndex 11 = .ok (.iload_n 1, 1) := dk_27 (dk_at dksJ15_checkIndex_0 11 rfl rfl)
theorem dJ15_checkIndex_12 : decode cJ15_checkIndex 12 = .ok (.invokestatic 95, 3) := dk_184 0 95 (dk_at dksJ15_checkIndex_0 12 rfl rfl)
theorem dJ15_checkIndex_15 : decode cJ15_checkIndex 15 = .ok (.athrow, 1) := dk_191 (dk_at dksJ15_checkIndex_0 15 rfl rfl)
theorem dJ15_checkIndex_16 : decode cJ15_checkIndex 16 = .ok (.iload_n 0, 1) := dk_26 (dk_at dksJ15_checkIndex_0 16 rfl rfl)
theorem dJ15_checkIndex_17 : decode cJ15_checkIndex 17 = .ok (.ireturn, 1) := dk_172 (dk_at dksJ15_checkIndex_0 17 rfl rfl)
abbrev cJ15_checkFromToIndex : ByteArray := prog_61_method_12_code
def yJ15_checkFromToIndex : MethodName := ⟨RJ15, "checkFromToIndex", "(IIILjava/util/function/BiFunction;)I"⟩
def dkwJ15_checkFromToIndex_0 : List UInt8 := [26, 155, 0, 13, 26, 27, 163, 0, 8, 27, 28, 164, 0, 11, 45, 26, 27, 28, 184, 0, 99, 191, 26, 172]
abbrev dktJ15_checkFromToIndex_0 : List UInt8 := dkwJ15_checkFromToIndex_0 ++ []
theorem dksJ15_checkFromToIndex_0 : cJ15_checkFromToIndex.data.toList.drop 0 = dktJ15_checkFromToIndex_0 := by decide +kernel
theorem dJ15_checkFromToIndex_0 : decode cJ15_checkFromToIndex 0 = .ok (.iload_n 0, 1) := dk_26 (dk_at dksJ15_checkFromToIndex_0 0 rfl rfl)
theorem dJ15_checkFromToIndex_1 : decode cJ15_checkFromToIndex 1 = .ok (.ifCond .lt 13, 3) := dk_155 0 13 (dk_at dksJ15_checkFromToIndex_0 1 rfl rfl)
theorem dJ15_checkFromToIndex_4 : decode cJ15_checkFromToIndex 4 = .ok (.iload_n 0, 1) := dk_26 (dk_at dksJ15_checkFromToIndex_0 4 rfl rfl)
theorem dJ15_checkFromToIndex_5 : decode cJ15_checkFromToIndex 5 = .ok (.iload_n 1, 1) := dk_27 (dk_at dksJ15_checkFromToIndex_0 5 rfl rfl)
theorem dJ15_checkFromToIndex_6 : decode cJ15_checkFromToIndex 6 = .ok (.if_icmp .gt 8, 3) := dk_163 0 8 (dk_at dksJ15_checkFromToIndex_0 6 rfl rfl)
theorem dJ15_checkFromToIndex_9 : decode cJ15_checkFromToIndex 9 = .ok (.iload_n 1, 1) := dk_27 (dk_at dksJ15_checkFromToIndex_0 9 rfl rfl)
theorem dJ15_checkFromToIndex_10 : decode cJ15_checkFromToIndex 10 = .ok (.iload_n 2, 1) := dk_28 (dk_at dksJ15_checkFromToIndex_0 10 rfl rfl)
theorem dJ15_checkFromToIndex_11 : decode cJ15_checkFromToIndex 11 = .ok (.if_icmp .le 11, 3) := dk_164 0 11 (dk_at dksJ15_checkFromToIndex_0 11 rfl rfl)
theorem dJ15_checkFromToIndex_14 : decode cJ15_checkFromToIndex 14 = .ok (.aload_n 3, 1) := dk_45 (dk_at dksJ15_checkFromToIndex_0 14 rfl rfl)
theorem dJ15_checkFromToIndex_15 : decode cJ15_checkFromToIndex 15 = .ok (.iload_n 0, 1) := dk_26 (dk_at dksJ15_checkFromToIndex_0 15 rfl rfl)
theorem dJ15_checkFromToIndex_16 : decode cJ15_checkFromToIndex 16 = .ok (.iload_n 1, 1) := dk_27 (dk_at dksJ15_checkFromToIndex_0 16 rfl rfl)
theorem dJ15_checkFromToIndex_17 : decode cJ15_checkFromToIndex 17 = .ok (.iload_n 2, 1) := dk_28 (dk_at dksJ15_checkFromToIndex_0 17 rfl rfl)
theorem dJ15_checkFromToIndex_18 : decode cJ15_checkFromToIndex 18 = .ok (.invokestatic 99, 3) := dk_184 0 99 (dk_at dksJ15_checkFromToIndex_0 18 rfl rfl)
theorem dJ15_checkFromToIndex_21 : decode cJ15_checkFromToIndex 21 = .ok (.athrow, 1) := dk_191 (dk_at dksJ15_checkFromToIndex_0 21 rfl rfl)
theorem dJ15_checkFromToIndex_22 : decode cJ15_checkFromToIndex 22 = .ok (.iload_n 0, 1) := dk_26 (dk_at dksJ15_checkFromToIndex_0 22 rfl rfl)
theorem dJ15_checkFromToIndex_23 : decode cJ15_checkFromToIndex 23 = .ok (.ireturn, 1) := dk_172 (dk_at dksJ15_checkFromToIndex_0 23 rfl rfl)
abbrev cJ15_checkFromIndexSize : ByteArray := prog_61_method_13_code
def yJ15_checkFromIndexSize : MethodName := ⟨RJ15, "checkFromIndexSize", "(IIILjava/util/function/BiFunction;)I"⟩
def dkwJ15_checkFromIndexSize_1 : List UInt8 := [172]
abbrev dktJ15_checkFromIndexSize_1 : List UInt8 := dkwJ15_checkFromIndexSize_1 ++ []
def dkwJ15_checkFromIndexSize_0 : List UInt8 := [28, 26, 128, 27, 128, 155, 0, 10, 27, 28, 26, 100, 164, 0, 11, 45, 26, 27, 28, 184, 0, 103, 191, 26]
abbrev dktJ15_checkFromIndexSize_0 : List UInt8 := dkwJ15_checkFromIndexSize_0 ++ dktJ15_checkFromIndexSize_1
theorem dksJ15_checkFromIndexSize_0 : cJ15_checkFromIndexSize.data.toList.drop 0 = dktJ15_checkFromIndexSize_0 := by decide +kernel
theorem dksJ15_checkFromIndexSize_1 : cJ15_checkFromIndexSize.data.toList.drop 24 = dktJ15_checkFromIndexSize_1 := dk_seg dksJ15_checkFromIndexSize_0 24 rfl rfl
theorem dJ15_checkFromIndexSize_0 : decode cJ15_checkFromIndexSize 0 = .ok (.iload_n 2, 1) := dk_28 (dk_at dksJ15_checkFromIndexSize_0 0 rfl rfl)
theorem dJ15_checkFromIndexSize_1 : decode cJ15_checkFromIndexSize 1 = .ok (.iload_n 0, 1) := dk_26 (dk_at dksJ15_checkFromIndexSize_0 1 rfl rfl)
theorem dJ15_checkFromIndexSize_2 : decode cJ15_checkFromIndexSize 2 = .ok (.ior, 1) := dk_128 (dk_at dksJ15_checkFromIndexSize_0 2 rfl rfl)
theorem dJ15_checkFromIndexSize_3 : decode cJ15_checkFromIndexSize 3 = .ok (.iload_n 1, 1) := dk_27 (dk_at dksJ15_checkFromIndexSize_0 3 rfl rfl)
theorem dJ15_checkFromIndexSize_4 : decode cJ15_checkFromIndexSize 4 = .ok (.ior, 1) := dk_128 (dk_at dksJ15_checkFromIndexSize_0 4 rfl rfl)
theorem dJ15_checkFromIndexSize_5 : decode cJ15_checkFromIndexSize 5 = .ok (.ifCond .lt 10, 3) := dk_155 0 10 (dk_at dksJ15_checkFromIndexSize_0 5 rfl rfl)
theorem dJ15_checkFromIndexSize_8 : decode cJ15_checkFromIndexSize 8 = .ok (.iload_n 1, 1) := dk_27 (dk_at dksJ15_checkFromIndexSize_0 8 rfl rfl)
theorem dJ15_checkFromIndexSize_9 : decode cJ15_checkFromIndexSize 9 = .ok (.iload_n 2, 1) := dk_28 (dk_at dksJ15_checkFromIndexSize_0 9 rfl rfl)
theorem dJ15_checkFromIndexSize_10 : decode cJ15_checkFromIndexSize 10 = .ok (.iload_n 0, 1) := dk_26 (dk_at dksJ15_checkFromIndexSize_0 10 rfl rfl)
theorem dJ15_checkFromIndexSize_11 : decode cJ15_checkFromIndexSize 11 = .ok (.isub, 1) := dk_100 (dk_at dksJ15_checkFromIndexSize_0 11 rfl rfl)
theorem dJ15_checkFromIndexSize_12 : decode cJ15_checkFromIndexSize 12 = .ok (.if_icmp .le 11, 3) := dk_164 0 11 (dk_at dksJ15_checkFromIndexSize_0 12 rfl rfl)
theorem dJ15_checkFromIndexSize_15 : decode cJ15_checkFromIndexSize 15 = .ok (.aload_n 3, 1) := dk_45 (dk_at dksJ15_checkFromIndexSize_0 15 rfl rfl)
theorem dJ15_checkFromIndexSize_16 : decode cJ15_checkFromIndexSize 16 = .ok (.iload_n 0, 1) := dk_26 (dk_at dksJ15_checkFromIndexSize_0 16 rfl rfl)
theorem dJ15_checkFromIndexSize_17 : decode cJ15_checkFromIndexSize 17 = .ok (.iload_n 1, 1) := dk_27 (dk_at dksJ15_checkFromIndexSize_0 17 rfl rfl)
theorem dJ15_checkFromIndexSize_18 : decode cJ15_checkFromIndexSize 18 = .ok (.iload_n 2, 1) := dk_28 (dk_at dksJ15_checkFromIndexSize_0 18 rfl rfl)
theorem dJ15_checkFromIndexSize_19 : decode cJ15_checkFromIndexSize 19 = .ok (.invokestatic 103, 3) := dk_184 0 103 (dk_at dksJ15_checkFromIndexSize_0 19 rfl rfl)
theorem dJ15_checkFromIndexSize_22 : decode cJ15_checkFromIndexSize 22 = .ok (.athrow, 1) := dk_191 (dk_at dksJ15_checkFromIndexSize_0 22 rfl rfl)
theorem dJ15_checkFromIndexSize_23 : decode cJ15_checkFromIndexSize 23 = .ok (.iload_n 0, 1) := dk_26 (dk_at dksJ15_checkFromIndexSize_0 23 rfl rfl)
theorem dJ15_checkFromIndexSize_24 : decode cJ15_checkFromIndexSize 24 = .ok (.ireturn, 1) := dk_172 (dk_at dksJ15_checkFromIndexSize_1 0 rfl rfl)
theorem q84 : (Jvm.Cond.initialized "jdk/internal/util/Preconditions") ∈ lw_all := lw_g (lw_at lw_m1 21 rfl) rfl
theorem q448 : (Jvm.Cond.static ({ cls := "jdk/internal/util/Preconditions", name := "checkIndex", desc := "(IILjava/util/function/BiFunction;)I" } : Jvm.MethodName)) ∈ lw_all := lw_g (lw_at lw_m2 145 rfl) rfl
theorem q449 : (Jvm.Cond.code ({ cls := "jdk/internal/util/Preconditions", name := "checkIndex", desc := "(IILjava/util/function/BiFunction;)I" } : Jvm.MethodName) prog_61_method_11_code (3 : Nat) (Option.some Jvm.ClassFile.FieldType.int)) ∈ lw_all := lw_g (lw_at lw_m2 146 rfl) rfl
theorem q707 : (Jvm.Cond.laysStatic "jdk/internal/util/Preconditions" "SIOOBE_FORMATTER" "Ljava/util/function/BiFunction;") ∈ lw_tbl := lw_at lw_m3 164 rfl
theorem q709 : (Jvm.Cond.static ({ cls := "jdk/internal/util/Preconditions", name := "checkFromToIndex", desc := "(IIILjava/util/function/BiFunction;)I" } : Jvm.MethodName)) ∈ lw_all := lw_g (lw_at lw_m3 166 rfl) rfl
theorem q710 : (Jvm.Cond.code ({ cls := "jdk/internal/util/Preconditions", name := "checkFromToIndex", desc := "(IIILjava/util/function/BiFunction;)I" } : Jvm.MethodName) prog_61_method_12_code (4 : Nat) (Option.some Jvm.ClassFile.FieldType.int)) ∈ lw_all := lw_g (lw_at lw_m3 167 rfl) rfl
theorem q755 : (Jvm.Cond.static ({ cls := "jdk/internal/util/Preconditions", name := "checkFromIndexSize", desc := "(IIILjava/util/function/BiFunction;)I" } : Jvm.MethodName)) ∈ lw_all := lw_g (lw_at lw_m3 212 rfl) rfl
theorem q756 : (Jvm.Cond.code ({ cls := "jdk/internal/util/Preconditions", name := "checkFromIndexSize", desc := "(IIILjava/util/function/BiFunction;)I" } : Jvm.MethodName) prog_61_method_13_code (4 : Nat) (Option.some Jvm.ClassFile.FieldType.int)) ∈ lw_all := lw_g (lw_at lw_m3 213 rfl) rfl

/-! java/util/ArrayList$Itr -/
set_option maxRecDepth 100000
def RJ16 : String := "java/util/ArrayList$Itr"
def TJ16 : u_T := fun k => match k with
  | 0 => ("java/util/ArrayList$Itr", "cursor", "I", false)
  | 1 => ("java/util/ArrayList$Itr", "lastRet", "I", false)
  | 2 => ("java/util/ArrayList$Itr", "expectedModCount", "I", false)
  | _ => ("java/util/ArrayList$Itr", "this$0", "Ljava/util/ArrayList;", true)
def tyJ16 : Nat → FieldType := fun k => match k with
  | 0 => .int
  | 1 => .int
  | 2 => .int
  | _ => .object "java/util/ArrayList"
abbrev wsJ160 : List Cond := u_ws RJ16 TJ16 4
theorem nmJ16 : ∀ a, a < 4 → ∀ b, b < 4 → a ≠ b → (TJ16 a).2.1 ≠ (TJ16 b).2.1 := by decide +kernel
theorem tyJ16_ok : ∀ k, k < 4 → parseFieldDescriptor (TJ16 k).2.2.1 = some (tyJ16 k) := by decide +kernel
abbrev cJ16_init : ByteArray := prog_42_method_1_code
def yJ16_init : MethodName := ⟨RJ16, "<init>", "(Ljava/util/ArrayList;)V"⟩
def dkwJ16_init_1 : List UInt8 := [181, 0, 22, 177]
abbrev dktJ16_init_1 : List UInt8 := dkwJ16_init_1 ++ []
def dkwJ16_init_0 : List UInt8 := [42, 43, 181, 0, 1, 42, 183, 0, 7, 42, 2, 181, 0, 13, 42, 42, 180, 0, 1, 180, 0, 17]
abbrev dktJ16_init_0 : List UInt8 := dkwJ16_init_0 ++ dktJ16_init_1
theorem dksJ16_init_0 : cJ16_init.data.toList.drop 0 = dktJ16_init_0 := by decide +kernel
theorem dksJ16_init_1 : cJ16_init.data.toList.drop 22 = dktJ16_init_1 := dk_seg dksJ16_init_0 22 rfl rfl
theorem dJ16_init_0 : decode cJ16_init 0 = .ok (.aload_n 0, 1) := dk_42 (dk_at dksJ16_init_0 0 rfl rfl)
theorem dJ16_init_1 : decode cJ16_init 1 = .ok (.aload_n 1, 1) := dk_43 (dk_at dksJ16_init_0 1 rfl rfl)
theorem dJ16_init_2 : decode cJ16_init 2 = .ok (.putfield 1, 3) := dk_181 0 1 (dk_at dksJ16_init_0 2 rfl rfl)
theorem dJ16_init_5 : decode cJ16_init 5 = .ok (.aload_n 0, 1) := dk_42 (dk_at dksJ16_init_0 5 rfl rfl)
theorem dJ16_init_6 : decode cJ16_init 6 = .ok (.invokespecial 7, 3) := dk_183 0 7 (dk_at dksJ16_init_0 6 rfl rfl)
theorem dJ16_init_9 : decode cJ16_init 9 = .ok (.aload_n 0, 1) := dk_42 (dk_at dksJ16_init_0 9 rfl rfl)
theorem dJ16_init_10 : decode cJ16_init 10 = .ok (.iconst (-1), 1) := dk_2 (dk_at dksJ16_init_0 10 rfl rfl)
theorem dJ16_init_11 : decode cJ16_init 11 = .ok (.putfield 13, 3) := dk_181 0 13 (dk_at dksJ16_init_0 11 rfl rfl)
theorem dJ16_init_14 : decode cJ16_init 14 = .ok (.aload_n 0, 1) := dk_42 (dk_at dksJ16_init_0 14 rfl rfl)
theorem dJ16_init_15 : decode cJ16_init 15 = .ok (.aload_n 0, 1) := dk_42 (dk_at dksJ16_init_0 15 rfl rfl)
theorem dJ16_init_16 : decode cJ16_init 16 = .ok (.getfield 1, 3) := dk_180 0 1 (dk_at dksJ16_init_0 16 rfl rfl)
theorem dJ16_init_19 : decode cJ16_init 19 = .ok (.getfield 17, 3) := dk_180 0 17 (dk_at dksJ16_init_0 19 rfl rfl)
theorem dJ16_init_22 : decode cJ16_init 22 = .ok (.putfield 22, 3) := dk_181 0 22 (dk_at dksJ16_init_1 0 rfl rfl)
theorem dJ16_init_25 : decode cJ16_init 25 = .ok (.return_, 1) := dk_177 (dk_at dksJ16_init_1 3 rfl rfl)
abbrev cJ16_hasNext : ByteArray := prog_42_method_2_code
def yJ16_hasNext : MethodName := ⟨RJ16, "hasNext", "()Z"⟩
def dkwJ16_hasNext_0 : List UInt8 := [42, 180, 0, 25, 42, 180, 0, 1, 180, 0, 28, 159, 0, 7, 4, 167, 0, 4, 3, 172]
abbrev dktJ16_hasNext_0 : List UInt8 := dkwJ16_hasNext_0 ++ []
theorem dksJ16_hasNext_0 : cJ16_hasNext.data.toList.drop 0 = dktJ16_hasNext_0 := by decide +kernel
theorem dJ16_hasNext_0 : decode cJ16_hasNext 0 = .ok (.aload_n 0, 1) := dk_42 (dk_at dksJ16_hasNext_0 0 rfl rfl)
theorem dJ16_hasNext_1 : decode cJ16_hasNext 1 = .ok (.getfield 25, 3) := dk_180 0 25 (dk_at dksJ16_hasNext_0 1 rfl rfl)
theorem dJ16_hasNext_4 : decode cJ16_hasNext 4 = .ok (.aload_n 0, 1) := dk_42 (dk_at dksJ16_hasNext_0 4 rfl rfl)
theorem dJ16_hasNext_5 : decode cJ16_hasNext 5 = .ok (.getfield 1, 3) := dk_180 0 1 (dk_at dksJ16_hasNext_0 5 rfl rfl)
theorem dJ16_hasNext_8 : decode cJ16_hasNext 8 = .ok (.getfield 28, 3) := dk_180 0 28 (dk_at dksJ16_hasNext_0 8 rfl rfl)
theorem dJ16_hasNext_11 : decode cJ16_hasNext 11 = .ok (.if_icmp .eq 7, 3) := dk_159 0 7 (dk_at dksJ16_hasNext_0 11 rfl rfl)
theorem dJ16_hasNext_14 : decode cJ16_hasNext 14 = .ok (.iconst 1, 1) := dk_4 (dk_at dksJ16_hasNext_0 14 rfl rfl)
theorem dJ16_hasNext_15 : decode cJ16_hasNext 15 = .ok (.goto 4, 3) := dk_167 0 4 (dk_at dksJ16_hasNext_0 15 rfl rfl)
theorem dJ16_hasNext_18 : decode cJ16_hasNext 18 = .ok (.iconst 0, 1) := dk_3 (dk_at dksJ16_hasNext_0 18 rfl rfl)
theorem dJ16_hasNext_19 : decode cJ16_hasNext 19 = .ok (.ireturn, 1) := dk_172 (dk_at dksJ16_hasNext_0 19 rfl rfl)
abbrev cJ16_next : ByteArray := prog_42_method_3_code
def yJ16_next : MethodName := ⟨RJ16, "next", "()Ljava/lang/Object;"⟩
def dkwJ16_next_2 : List UInt8 := [183, 0, 43, 191, 42, 27, 4, 96, 181, 0, 25, 44, 42, 27, 90, 181, 0, 13, 50, 176]
abbrev dktJ16_next_2 : List UInt8 := dkwJ16_next_2 ++ []
def dkwJ16_next_1 : List UInt8 := [183, 0, 36, 191, 42, 180, 0, 1, 180, 0, 37, 77, 27, 44, 190, 161, 0, 11, 187, 0, 41, 89]
abbrev dktJ16_next_1 : List UInt8 := dkwJ16_next_1 ++ dktJ16_next_2
def dkwJ16_next_0 : List UInt8 := [42, 182, 0, 31, 42, 180, 0, 25, 60, 27, 42, 180, 0, 1, 180, 0, 28, 161, 0, 11, 187, 0, 34, 89]
abbrev dktJ16_next_0 : List UInt8 := dkwJ16_next_0 ++ dktJ16_next_1
theorem dksJ16_next_0 : cJ16_next.data.toList.drop 0 = dktJ16_next_0 := by decide +kernel
theorem dksJ16_next_1 : cJ16_next.data.toList.drop 24 = dktJ16_next_1 := dk_seg dksJ16_next_0 24 rfl rfl
theorem dksJ16_next_2 : cJ16_next.data.toList.drop 46 = dktJ16_next_2 := dk_seg dksJ16_next_1 22 rfl rfl
theorem dJ16_next_0 : decode cJ16_next 0 = .ok (.aload_n 0, 1) := dk_42 (dk_at dksJ16_next_0 0 rfl rfl)
theorem dJ16_next_1 : decode cJ16_next 1 = .ok (.invokevirtual 31, 3) := dk_182 0 31 (dk_at dksJ16_next_0 1 rfl rfl)
theorem dJ16_next_4 : decode cJ16_next 4 = .ok (.aload_n 0, 1) := dk_42 (dk_at dksJ16_next_0 4 rfl rfl)
theorem dJ16_next_5 : decode cJ16_next 5 = .ok (.getfield 25, 3) := dk_180 0 25 (dk_at dksJ16_next_0 5 rfl rfl)
theorem dJ16_next_8 : decode cJ16_next 8 = .ok (.istore_n 1, 1) := dk_60 (dk_at dksJ16_next_0 8 rfl rfl)
theorem dJ16_next_9 : decode cJ16_next 9 = .ok (.iload_n 1, 1) := dk_27 (dk_at dksJ16_next_0 9 rfl rfl)
theorem dJ16_next_10 : decode cJ16_next 10 = .ok (.aload_n 0, 1) := dk_42 (dk_at dksJ16_next_0 10 rfl rfl)
theorem dJ16_next_11 : decode cJ16_next 11 = .ok (.getfield 1, 3) := dk_180 0 1 (dk_at dksJ16_next_0 11 rfl rfl)
theorem dJ16_next_14 : decode cJ16_next 14 = .ok (.getfield 28, 3) := dk_180 0 28 (dk_at dksJ16_next_0 14 rfl rfl)
theorem dJ16_next_17 : decode cJ16_next 17 = .ok (.if_icmp .lt 11, 3) := dk_161 0 11 (dk_at dksJ16_next_0 17 rfl rfl)
theorem dJ16_next_20 : decode cJ16_next 20 = .ok (.new 34, 3) := dk_187 0 34 (dk_at dksJ16_next_0 20 rfl rfl)
theorem dJ16_next_23 : decode cJ16_next 23 = .ok (.dup, 1) := dk_89 (dk_at dksJ16_next_0 23 rfl rfl)
theorem dJ16_next_24 : decode cJ16_next 24 = .ok (.invokespecial 36, 3) := dk_183 0 36 (dk_at dksJ16_next_1 0 rfl rfl)
theorem dJ16_next_27 : decode cJ16_next 27 = .ok (.athrow, 1) := dk_191 (dk_at dksJ16_next_1 3 rfl rfl)
theorem dJ16_next_28 : decode cJ16_next 28 = .ok (.aload_n 0, 1) := dk_42 (dk_at dksJ16_next_1 4 rfl rfl)
theorem dJ16_next_29 : decode cJ16_next 29 = .ok (.getfield 1, 3) := dk_180 0 1 (dk_at dksJ16_next_1 5 rfl rfl)
theorem dJ16_next_32 : decode cJ16_next 32 = .ok (.getfield 37, 3) := dk_180 0 37 (dk_at dksJ16_next_1 8 rfl rfl)
theorem dJ16_next_35 : decode cJ16_next 35 = .ok (.astore_n 2, 1) := dk_77 (dk_at dksJ16_next_1 11 rfl rfl)
theorem dJ16_next_36 : decode cJ16_next 36 = .ok (.iload_n 1, 1) := dk_27 (dk_at dksJ16_next_1 12 rfl rfl)
theorem dJ16_next_37 : decode cJ16_next 37 = .ok (.aload_n 2, 1) := dk_44 (dk_at dksJ16_next_1 13 rfl rfl)
theorem dJ16_next_38 : decode cJ16_next 38 = .ok (.arraylength, 1) := dk_190 (dk_at dksJ16_next_1 14 rfl rfl)
theorem dJ16_next_39 : decode cJ16_next 39 = .ok (.if_icmp .lt 11, 3) := dk_161 0 11 (dk_at dksJ16_next_1 15 rfl rfl)
theorem dJ16_next_42 : decode cJ16_next 42 = .ok (.new 41, 3) := dk_187 0 41 (dk_at dksJ16_next_1 18 rfl rfl)
theorem dJ16_next_45 : decode cJ16_next 45 = .ok (.dup, 1) := dk_89 (dk_at dksJ16_next_1 21 rfl rfl)
theorem dJ16_next_46 : decode cJ16_next 46 = .ok (.invokespecial 43, 3) := dk_183 0 43 (dk_at dksJ16_next_2 0 rfl rfl)
theorem dJ16_next_49 : decode cJ16_next 49 = .ok (.athrow, 1) := dk_191 (dk_at dksJ16_next_2 3 rfl rfl)
theorem dJ16_next_50 : decode cJ16_next 50 = .ok (.aload_n 0, 1) := dk_42 (dk_at dksJ16_next_2 4 rfl rfl)
theorem dJ16_next_51 : decode cJ16_next 51 = .ok (.iload_n 1, 1) := dk_27 (dk_at dksJ16_next_2 5 rfl rfl)
theorem dJ16_next_52 : decode cJ16_next 52 = .ok (.iconst 1, 1) := dk_4 (dk_at dksJ16_next_2 6 rfl rfl)
theorem dJ16_next_53 : decode cJ16_next 53 = .ok (.iadd, 1) := dk_96 (dk_at dksJ16_next_2 7 rfl rfl)
theorem dJ16_next_54 : decode cJ16_next 54 = .ok (.putfield 25, 3) := dk_181 0 25 (dk_at dksJ16_next_2 8 rfl rfl)
theorem dJ16_next_57 : decode cJ16_next 57 = .ok (.aload_n 2, 1) := dk_44 (dk_at dksJ16_next_2 11 rfl rfl)
theorem dJ16_next_58 : decode cJ16_next 58 = .ok (.aload_n 0, 1) := dk_42 (dk_at dksJ16_next_2 12 rfl rfl)
theorem dJ16_next_59 : decode cJ16_next 59 = .ok (.iload_n 1, 1) := dk_27 (dk_at dksJ16_next_2 13 rfl rfl)
theorem dJ16_next_60 : decode cJ16_next 60 = .ok (.dup_x1, 1) := dk_90 (dk_at dksJ16_next_2 14 rfl rfl)
theorem dJ16_next_61 : decode cJ16_next 61 = .ok (.putfield 13, 3) := dk_181 0 13 (dk_at dksJ16_next_2 15 rfl rfl)
theorem dJ16_next_64 : decode cJ16_next 64 = .ok (.aaload, 1) := dk_50 (dk_at dksJ16_next_2 18 rfl rfl)
theorem dJ16_next_65 : decode cJ16_next 65 = .ok (.areturn, 1) := dk_176 (dk_at dksJ16_next_2 19 rfl rfl)
abbrev cJ16_checkForComodification : ByteArray := prog_42_method_6_code
def yJ16_checkForComodification : MethodName := ⟨RJ16, "checkForComodification", "()V"⟩
def dkwJ16_checkForComodification_0 : List UInt8 := [42, 180, 0, 1, 180, 0, 17, 42, 180, 0, 22, 159, 0, 11, 187, 0, 41, 89, 183, 0, 43, 191, 177]
abbrev dktJ16_checkForComodification_0 : List UInt8 := dkwJ16_checkForComodification_0 ++ []
theorem dksJ16_checkForComodification_0 : cJ16_checkForComodification.data.toList.drop 0 = dktJ16_checkForComodification_0 := by decide +kernel
theorem dJ16_checkForComodification_0 : decode cJ16_checkForComodification 0 = .ok (.aload_n 0, 1) := dk_42 (dk_at dksJ16_checkForComodification_0 0 rfl rfl)
theorem dJ16_checkForComodification_1 : decode cJ16_checkForComodification 1 = .ok (.getfield 1, 3) := dk_180 0 1 (dk_at dksJ16_checkForComodification_0 1 rfl rfl)
theorem dJ16_checkForComodification_4 : decode cJ16_checkForComodification 4 = .ok (.getfield 17, 3) := dk_180 0 17 (dk_at dksJ16_checkForComodification_0 4 rfl rfl)
theorem dJ16_checkForComodification_7 : decode cJ16_checkForComodification 7 = .ok (.aload_n 0, 1) := dk_42 (dk_at dksJ16_checkForComodification_0 7 rfl rfl)
theorem dJ16_checkForComodification_8 : decode cJ16_checkForComodification 8 = .ok (.getfield 22, 3) := dk_180 0 22 (dk_at dksJ16_checkForComodification_0 8 rfl rfl)
theorem dJ16_checkForComodification_11 : decode cJ16_checkForComodification 11 = .ok (.if_icmp .eq 11, 3) := dk_159 0 11 (dk_at dksJ16_checkForComodification_0 11 rfl rfl)
theorem dJ16_checkForComodification_14 : decode cJ16_checkForComodification 14 = .ok (.new 41, 3) := dk_187 0 41 (dk_at dksJ16_checkForComodification_0 14 rfl rfl)
theorem dJ16_checkForComodification_17 : decode cJ16_checkForComodification 17 = .ok (.dup, 1) := dk_89 (dk_at dksJ16_checkForComodification_0 17 rfl rfl)
theorem dJ16_checkForComodification_18 : decode cJ16_checkForComodification 18 = .ok (.invokespecial 43, 3) := dk_183 0 43 (dk_at dksJ16_checkForComodification_0 18 rfl rfl)
theorem dJ16_checkForComodification_21 : decode cJ16_checkForComodification 21 = .ok (.athrow, 1) := dk_191 (dk_at dksJ16_checkForComodification_0 21 rfl rfl)
theorem dJ16_checkForComodification_22 : decode cJ16_checkForComodification 22 = .ok (.return_, 1) := dk_177 (dk_at dksJ16_checkForComodification_0 22 rfl rfl)
theorem q85 : (Jvm.Cond.initialized "java/util/ArrayList$Itr") ∈ lw_all := lw_g (lw_at lw_m1 22 rfl) rfl
theorem q137 : (Jvm.Cond.fieldLink "java/util/ArrayList$Itr" (37 : Nat) "java/util/ArrayList" "elementData" "[Ljava/lang/Object;") ∈ lw_all := lw_g (lw_at lw_m1 74 rfl) rfl
theorem q138 : (Jvm.Cond.fieldLinkNest "java/util/ArrayList$Itr" (28 : Nat) "java/util/ArrayList" "size" "I" "java/util/ArrayList") ∈ lw_tbl := lw_at lw_m1 75 rfl
theorem q143 : (Jvm.Cond.fieldLink "java/util/ArrayList$Itr" (17 : Nat) "java/util/ArrayList" "modCount" "I") ∈ lw_all := lw_g (lw_at lw_m1 80 rfl) rfl
theorem q276 : (Jvm.Cond.selects "java/util/ArrayList$Itr" ({ cls := "java/lang/Object", name := "getClass", desc := "()Ljava/lang/Class;" } : Jvm.MethodName) ({ cls := "java/lang/Object", name := "getClass", desc := "()Ljava/lang/Class;" } : Jvm.MethodName)) ∈ lw_all := lw_g (lw_at lw_m1 213 rfl) rfl
theorem q496 : (Jvm.Cond.instantiable "java/util/ArrayList$Itr" (4 : Nat)) ∈ lw_all := lw_g (lw_at lw_m2 193 rfl) rfl
theorem q498 : (Jvm.Cond.instanceMethod ({ cls := "java/util/ArrayList$Itr", name := "<init>", desc := "(Ljava/util/ArrayList;)V" } : Jvm.MethodName)) ∈ lw_all := lw_g (lw_at lw_m2 195 rfl) rfl
theorem q499 : (Jvm.Cond.code ({ cls := "java/util/ArrayList$Itr", name := "<init>", desc := "(Ljava/util/ArrayList;)V" } : Jvm.MethodName) prog_42_method_1_code (2 : Nat) (Option.none : Option Jvm.ClassFile.FieldType)) ∈ lw_all := lw_g (lw_at lw_m2 196 rfl) rfl
theorem q500 : (Jvm.Cond.methodLink "java/util/ArrayList$Itr" (7 : Nat) ({ cls := "java/lang/Object", name := "<init>", desc := "()V" } : Jvm.MethodName)) ∈ lw_all := lw_g (lw_at lw_m2 197 rfl) rfl
theorem q503 : (Jvm.Cond.fieldLink "java/util/ArrayList$Itr" (25 : Nat) "java/util/ArrayList$Itr" "cursor" "I") ∈ lw_all := lw_g (lw_at lw_m2 200 rfl) rfl
theorem q504 : (Jvm.Cond.fieldLink "java/util/ArrayList$Itr" (13 : Nat) "java/util/ArrayList$Itr" "lastRet" "I") ∈ lw_all := lw_g (lw_at lw_m2 201 rfl) rfl
theorem q505 : (Jvm.Cond.fieldLink "java/util/ArrayList$Itr" (22 : Nat) "java/util/ArrayList$Itr" "expectedModCount" "I") ∈ lw_all := lw_g (lw_at lw_m2 202 rfl) rfl
theorem q506 : (Jvm.Cond.fieldLink "java/util/ArrayList$Itr" (1 : Nat) "java/util/ArrayList$Itr" "this$0" "Ljava/util/ArrayList;") ∈ lw_all := lw_g (lw_at lw_m2 203 rfl) rfl
theorem q507 : (Jvm.Cond.lays "java/util/ArrayList$Itr" "java/util/ArrayList$Itr" "cursor" "I") ∈ lw_all := lw_g (lw_at lw_m2 204 rfl) rfl
theorem q508 : (Jvm.Cond.soleField "java/util/ArrayList$Itr" "cursor") ∈ lw_all := lw_g (lw_at lw_m2 205 rfl) rfl
theorem q509 : (Jvm.Cond.lays "java/util/ArrayList$Itr" "java/util/ArrayList$Itr" "lastRet" "I") ∈ lw_all := lw_g (lw_at lw_m2 206 rfl) rfl
theorem q510 : (Jvm.Cond.soleField "java/util/ArrayList$Itr" "lastRet") ∈ lw_all := lw_g (lw_at lw_m2 207 rfl) rfl
theorem q511 : (Jvm.Cond.lays "java/util/ArrayList$Itr" "java/util/ArrayList$Itr" "expectedModCount" "I") ∈ lw_all := lw_g (lw_at lw_m2 208 rfl) rfl
theorem q512 : (Jvm.Cond.soleField "java/util/ArrayList$Itr" "expectedModCount") ∈ lw_all := lw_g (lw_at lw_m2 209 rfl) rfl
theorem q513 : (Jvm.Cond.laysFinal "java/util/ArrayList$Itr" "java/util/ArrayList$Itr" "this$0" "Ljava/util/ArrayList;") ∈ lw_all := lw_g (lw_at lw_m2 210 rfl) rfl
theorem q514 : (Jvm.Cond.soleField "java/util/ArrayList$Itr" "this$0") ∈ lw_all := lw_g (lw_at lw_m2 211 rfl) rfl
theorem q515 : (Jvm.Cond.superclass "java/util/ArrayList$Itr" "java/lang/Object") ∈ lw_all := lw_g (lw_at lw_m2 212 rfl) rfl
theorem q535 : (Jvm.Cond.castable "java/util/ArrayList$Itr" "java/util/Iterator") ∈ lw_tbl := lw_at lw_m2 232 rfl
theorem q536 : (Jvm.Cond.selects "java/util/ArrayList$Itr" ({ cls := "java/util/Iterator", name := "hasNext", desc := "()Z" } : Jvm.MethodName) ({ cls := "java/util/ArrayList$Itr", name := "hasNext", desc := "()Z" } : Jvm.MethodName)) ∈ lw_all := lw_g (lw_at lw_m2 233 rfl) rfl
theorem q537 : (Jvm.Cond.unhidden "java/util/ArrayList$Itr" "hasNext" "()Z") ∈ lw_tbl := lw_at lw_m2 234 rfl
theorem q538 : (Jvm.Cond.instanceMethod ({ cls := "java/util/ArrayList$Itr", name := "hasNext", desc := "()Z" } : Jvm.MethodName)) ∈ lw_all := lw_g (lw_at lw_m2 235 rfl) rfl
theorem q539 : (Jvm.Cond.publicMethod ({ cls := "java/util/ArrayList$Itr", name := "hasNext", desc := "()Z" } : Jvm.MethodName)) ∈ lw_tbl := lw_at lw_m2 236 rfl
theorem q540 : (Jvm.Cond.code ({ cls := "java/util/ArrayList$Itr", name := "hasNext", desc := "()Z" } : Jvm.MethodName) prog_42_method_2_code (1 : Nat) (Option.some Jvm.ClassFile.FieldType.boolean)) ∈ lw_all := lw_g (lw_at lw_m2 237 rfl) rfl
theorem q839 : (Jvm.Cond.selects "java/util/ArrayList$Itr" ({ cls := "java/util/Iterator", name := "next", desc := "()Ljava/lang/Object;" } : Jvm.MethodName) ({ cls := "java/util/ArrayList$Itr", name := "next", desc := "()Ljava/lang/Object;" } : Jvm.MethodName)) ∈ lw_all := lw_g (lw_at lw_m4 56 rfl) rfl
theorem q840 : (Jvm.Cond.unhidden "java/util/ArrayList$Itr" "next" "()Ljava/lang/Object;") ∈ lw_tbl := lw_at lw_m4 57 rfl
theorem q841 : (Jvm.Cond.instanceMethod ({ cls := "java/util/ArrayList$Itr", name := "next", desc := "()Ljava/lang/Object;" } : Jvm.MethodName)) ∈ lw_all := lw_g (lw_at lw_m4 58 rfl) rfl
theorem q842 : (Jvm.Cond.publicMethod ({ cls := "java/util/ArrayList$Itr", name := "next", desc := "()Ljava/lang/Object;" } : Jvm.MethodName)) ∈ lw_tbl := lw_at lw_m4 59 rfl
theorem q843 : (Jvm.Cond.code ({ cls := "java/util/ArrayList$Itr", name := "next", desc := "()Ljava/lang/Object;" } : Jvm.MethodName) prog_42_method_3_code (3 : Nat) (Option.some (Jvm.ClassFile.FieldType.object "java/lang/Object"))) ∈ lw_all := lw_g (lw_at lw_m4 60 rfl) rfl
theorem q844 : (Jvm.Cond.methodLink "java/util/ArrayList$Itr" (31 : Nat) ({ cls := "java/util/ArrayList$Itr", name := "checkForComodification", desc := "()V" } : Jvm.MethodName)) ∈ lw_all := lw_g (lw_at lw_m4 61 rfl) rfl
theorem q845 : (Jvm.Cond.instanceMethod ({ cls := "java/util/ArrayList$Itr", name := "checkForComodification", desc := "()V" } : Jvm.MethodName)) ∈ lw_all := lw_g (lw_at lw_m4 62 rfl) rfl
theorem q846 : (Jvm.Cond.selects "java/util/ArrayList$Itr" ({ cls := "java/util/ArrayList$Itr", name := "checkForComodification", desc := "()V" } : Jvm.MethodName) ({ cls := "java/util/ArrayList$Itr", name := "checkForComodification", desc := "()V" } : Jvm.MethodName)) ∈ lw_all := lw_g (lw_at lw_m4 63 rfl) rfl
theorem q847 : (Jvm.Cond.sameMethod "java/util/ArrayList$Itr" "java/util/ArrayList$Itr" "checkForComodification" "()V") ∈ lw_all := lw_g (lw_at lw_m4 64 rfl) rfl
theorem q849 : (Jvm.Cond.code ({ cls := "java/util/ArrayList$Itr", name := "checkForComodification", desc := "()V" } : Jvm.MethodName) prog_42_method_6_code (1 : Nat) (Option.none : Option Jvm.ClassFile.FieldType)) ∈ lw_all := lw_g (lw_at lw_m4 66 rfl) rfl
theorem q2262 : (Jvm.Cond.castable "java/util/ArrayList$Itr" "java/lang/Object") ∈ lw_tbl := lw_at lw_m10 39 rfl
theorem in_J16 : ∀ w ∈ wsJ160, w ∈ lw_all := lw_in wsJ160 [507, 509, 511, 513] (by decide +kernel) (by decide +kernel)

/-! java/lang/Throwable -/
set_option maxRecDepth 100000
def RJ17 : String := "java/lang/Throwable"
def TJ17 : u_T := fun k => match k with
  | 0 => ("java/lang/Throwable", "cause", "Ljava/lang/Throwable;", false)
  | 1 => ("java/lang/Throwable", "stackTrace", "[Ljava/lang/StackTraceElement;", false)
  | 2 => ("java/lang/Throwable", "suppressedExceptions", "Ljava/util/List;", false)
  | 3 => ("java/lang/Throwable", "detailMessage", "Ljava/lang/String;", false)
  | _ => ("java/lang/Throwable", "backtrace", "Ljava/lang/Object;", false)
def tyJ17 : Nat → FieldType := fun k => match k with
  | 0 => .object "java/lang/Throwable"
  | 1 => .array (.object "java/lang/StackTraceElement")
  | 2 => .object "java/util/List"
  | 3 => .object "java/lang/String"
  | _ => .object "java/lang/Object"
abbrev wsJ170 : List Cond := u_ws RJ17 TJ17 5
theorem nmJ17 : ∀ a, a < 5 → ∀ b, b < 5 → a ≠ b → (TJ17 a).2.1 ≠ (TJ17 b).2.1 := by decide +kernel
theorem tyJ17_ok : ∀ k, k < 5 → parseFieldDescriptor (TJ17 k).2.2.1 = some (tyJ17 k) := by decide +kernel
abbrev cJ17_init : ByteArray := prog_32_method_1_code
def yJ17_init : MethodName := ⟨RJ17, "<init>", "()V"⟩
def dkwJ17_init_1 : List UInt8 := [182, 0, 27, 87, 177]
abbrev dktJ17_init_1 : List UInt8 := dkwJ17_init_1 ++ []
def dkwJ17_init_0 : List UInt8 := [42, 183, 0, 1, 42, 42, 181, 0, 7, 42, 178, 0, 13, 181, 0, 17, 42, 178, 0, 20, 181, 0, 24, 42]
abbrev dktJ17_init_0 : List UInt8 := dkwJ17_init_0 ++ dktJ17_init_1
theorem dksJ17_init_0 : cJ17_init.data.toList.drop 0 = dktJ17_init_0 := by decide +kernel
theorem dksJ17_init_1 : cJ17_init.data.toList.drop 24 = dktJ17_init_1 := dk_seg dksJ17_init_0 24 rfl rfl
theorem dJ17_init_0 : decode cJ17_init 0 = .ok (.aload_n 0, 1) := dk_42 (dk_at dksJ17_init_0 0 rfl rfl)
theorem dJ17_init_1 : decode cJ17_init 1 = .ok (.invokespecial 1, 3) := dk_183 0 1 (dk_at dksJ17_init_0 1 rfl rfl)
theorem dJ17_init_4 : decode cJ17_init 4 = .ok (.aload_n 0, 1) := dk_42 (dk_at dksJ17_init_0 4 rfl rfl)
theorem dJ17_init_5 : decode cJ17_init 5 = .ok (.aload_n 0, 1) := dk_42 (dk_at dksJ17_init_0 5 rfl rfl)
theorem dJ17_init_6 : decode cJ17_init 6 = .ok (.putfield 7, 3) := dk_181 0 7 (dk_at dksJ17_init_0 6 rfl rfl)
theorem dJ17_init_9 : decode cJ17_init 9 = .ok (.aload_n 0, 1) := dk_42 (dk_at dksJ17_init_0 9 rfl rfl)
theorem dJ17_init_10 : decode cJ17_init 10 = .ok (.getstatic 13, 3) := dk_178 0 13 (dk_at dksJ17_init_0 10 rfl rfl)
theorem dJ17_init_13 : decode cJ17_init 13 = .ok (.putfield 17, 3) := dk_181 0 17 (dk_at dksJ17_init_0 13 rfl rfl)
theorem dJ17_init_16 : decode cJ17_init 16 = .ok (.aload_n 0, 1) := dk_42 (dk_at dksJ17_init_0 16 rfl rfl)
theorem dJ17_init_17 : decode cJ17_init 17 = .ok (.getstatic 20, 3) := dk_178 0 20 (dk_at dksJ17_init_0 17 rfl rfl)
theorem dJ17_init_20 : decode cJ17_init 20 = .ok (.putfield 24, 3) := dk_181 0 24 (dk_at dksJ17_init_0 20 rfl rfl)
theorem dJ17_init_23 : decode cJ17_init 23 = .ok (.aload_n 0, 1) := dk_42 (dk_at dksJ17_init_0 23 rfl rfl)
theorem dJ17_init_24 : decode cJ17_init 24 = .ok (.invokevirtual 27, 3) := dk_182 0 27 (dk_at dksJ17_init_1 0 rfl rfl)
theorem dJ17_init_27 : decode cJ17_init 27 = .ok (.pop, 1) := dk_87 (dk_at dksJ17_init_1 3 rfl rfl)
theorem dJ17_init_28 : decode cJ17_init 28 = .ok (.return_, 1) := dk_177 (dk_at dksJ17_init_1 4 rfl rfl)
abbrev cJ17_init_2 : ByteArray := prog_32_method_4_code
def yJ17_init_2 : MethodName := ⟨RJ17, "<init>", "(Ljava/lang/Throwable;)V"⟩
def dkwJ17_init_2_2 : List UInt8 := [181, 0, 7, 177]
abbrev dktJ17_init_2_2 : List UInt8 := dkwJ17_init_2_2 ++ []
def dkwJ17_init_2_1 : List UInt8 := [182, 0, 27, 87, 42, 43, 199, 0, 7, 1, 167, 0, 7, 43, 182, 0, 35, 181, 0, 31, 42, 43]
abbrev dktJ17_init_2_1 : List UInt8 := dkwJ17_init_2_1 ++ dktJ17_init_2_2
def dkwJ17_init_2_0 : List UInt8 := [42, 183, 0, 1, 42, 42, 181, 0, 7, 42, 178, 0, 13, 181, 0, 17, 42, 178, 0, 20, 181, 0, 24, 42]
abbrev dktJ17_init_2_0 : List UInt8 := dkwJ17_init_2_0 ++ dktJ17_init_2_1
theorem dksJ17_init_2_0 : cJ17_init_2.data.toList.drop 0 = dktJ17_init_2_0 := by decide +kernel
theorem dksJ17_init_2_1 : cJ17_init_2.data.toList.drop 24 = dktJ17_init_2_1 := dk_seg dksJ17_init_2_0 24 rfl rfl
theorem dksJ17_init_2_2 : cJ17_init_2.data.toList.drop 46 = dktJ17_init_2_2 := dk_seg dksJ17_init_2_1 22 rfl rfl
theorem dJ17_init_2_0 : decode cJ17_init_2 0 = .ok (.aload_n 0, 1) := dk_42 (dk_at dksJ17_init_2_0 0 rfl rfl)
theorem dJ17_init_2_1 : decode cJ17_init_2 1 = .ok (.invokespecial 1, 3) := dk_183 0 1 (dk_at dksJ17_init_2_0 1 rfl rfl)
theorem dJ17_init_2_4 : decode cJ17_init_2 4 = .ok (.aload_n 0, 1) := dk_42 (dk_at dksJ17_init_2_0 4 rfl rfl)
theorem dJ17_init_2_5 : decode cJ17_init_2 5 = .ok (.aload_n 0, 1) := dk_42 (dk_at dksJ17_init_2_0 5 rfl rfl)
theorem dJ17_init_2_6 : decode cJ17_init_2 6 = .ok (.putfield 7, 3) := dk_181 0 7 (dk_at dksJ17_init_2_0 6 rfl rfl)
theorem dJ17_init_2_9 : decode cJ17_init_2 9 = .ok (.aload_n 0, 1) := dk_42 (dk_at dksJ17_init_2_0 9 rfl rfl)
theorem dJ17_init_2_10 : decode cJ17_init_2 10 = .ok (.getstatic 13, 3) := dk_178 0 13 (dk_at dksJ17_init_2_0 10 rfl rfl)
theorem dJ17_init_2_13 : decode cJ17_init_2 13 = .ok (.putfield 17, 3) := dk_181 0 17 (dk_at dksJ17_init_2_0 13 rfl rfl)
theorem dJ17_init_2_16 : decode cJ17_init_2 16 = .ok (.aload_n 0, 1) := dk_42 (dk_at dksJ17_init_2_0 16 rfl rfl)
theorem dJ17_init_2_17 : decode cJ17_init_2 17 = .ok (.getstatic 20, 3) := dk_178 0 20 (dk_at dksJ17_init_2_0 17 rfl rfl)
theorem dJ17_init_2_20 : decode cJ17_init_2 20 = .ok (.putfield 24, 3) := dk_181 0 24 (dk_at dksJ17_init_2_0 20 rfl rfl)
theorem dJ17_init_2_23 : decode cJ17_init_2 23 = .ok (.aload_n 0, 1) := dk_42 (dk_at dksJ17_init_2_0 23 rfl rfl)
theorem dJ17_init_2_24 : decode cJ17_init_2 24 = .ok (.invokevirtual 27, 3) := dk_182 0 27 (dk_at dksJ17_init_2_1 0 rfl rfl)
theorem dJ17_init_2_27 : decode cJ17_init_2 27 = .ok (.pop, 1) := dk_87 (dk_at dksJ17_init_2_1 3 rfl rfl)
theorem dJ17_init_2_28 : decode cJ17_init_2 28 = .ok (.aload_n 0, 1) := dk_42 (dk_at dksJ17_init_2_1 4 rfl rfl)
theorem dJ17_init_2_29 : decode cJ17_init_2 29 = .ok (.aload_n 1, 1) := dk_43 (dk_at dksJ17_init_2_1 5 rfl rfl)
theorem dJ17_init_2_30 : decode cJ17_init_2 30 = .ok (.ifnonnull 7, 3) := dk_199 0 7 (dk_at dksJ17_init_2_1 6 rfl rfl)
theorem dJ17_init_2_33 : decode cJ17_init_2 33 = .ok (.aconst_null, 1) := dk_1 (dk_at dksJ17_init_2_1 9 rfl rfl)
theorem dJ17_init_2_34 : decode cJ17_init_2 34 = .ok (.goto 7, 3) := dk_167 0 7 (dk_at dksJ17_init_2_1 10 rfl rfl)
theorem dJ17_init_2_37 : decode cJ17_init_2 37 = .ok (.aload_n 1, 1) := dk_43 (dk_at dksJ17_init_2_1 13 rfl rfl)
theorem dJ17_init_2_38 : decode cJ17_init_2 38 = .ok (.invokevirtual 35, 3) := dk_182 0 35 (dk_at dksJ17_init_2_1 14 rfl rfl)
theorem dJ17_init_2_41 : decode cJ17_init_2 41 = .ok (.putfield 31, 3) := dk_181 0 31 (dk_at dksJ17_init_2_1 17 rfl rfl)
theorem dJ17_init_2_44 : decode cJ17_init_2 44 = .ok (.aload_n 0, 1) := dk_42 (dk_at dksJ17_init_2_1 20 rfl rfl)
theorem dJ17_init_2_45 : decode cJ17_init_2 45 = .ok (.aload_n 1, 1) := dk_43 (dk_at dksJ17_init_2_1 21 rfl rfl)
theorem dJ17_init_2_46 : decode cJ17_init_2 46 = .ok (.putfield 7, 3) := dk_181 0 7 (dk_at dksJ17_init_2_2 0 rfl rfl)
theorem dJ17_init_2_49 : decode cJ17_init_2 49 = .ok (.return_, 1) := dk_177 (dk_at dksJ17_init_2_2 3 rfl rfl)
abbrev cJ17_toString : ByteArray := prog_32_method_11_code
def yJ17_toString : MethodName := ⟨RJ17, "toString", "()Ljava/lang/String;"⟩
def dkwJ17_toString_1 : List UInt8 := [43, 182, 0, 49, 18, 81, 182, 0, 49, 44, 182, 0, 49, 182, 0, 60, 167, 0, 4, 43, 176]
abbrev dktJ17_toString_1 : List UInt8 := dkwJ17_toString_1 ++ []
def dkwJ17_toString_0 : List UInt8 := [42, 182, 0, 69, 182, 0, 73, 76, 42, 182, 0, 78, 77, 44, 198, 0, 29, 187, 0, 44, 89, 183, 0, 46]
abbrev dktJ17_toString_0 : List UInt8 := dkwJ17_toString_0 ++ dktJ17_toString_1
theorem dksJ17_toString_0 : cJ17_toString.data.toList.drop 0 = dktJ17_toString_0 := by decide +kernel
theorem dksJ17_toString_1 : cJ17_toString.data.toList.drop 24 = dktJ17_toString_1 := dk_seg dksJ17_toString_0 24 rfl rfl
theorem dJ17_toString_0 : decode cJ17_toString 0 = .ok (.aload_n 0, 1) := dk_42 (dk_at dksJ17_toString_0 0 rfl rfl)
theorem dJ17_toString_1 : decode cJ17_toString 1 = .ok (.invokevirtual 69, 3) := dk_182 0 69 (dk_at dksJ17_toString_0 1 rfl rfl)
theorem dJ17_toString_4 : decode cJ17_toString 4 = .ok (.invokevirtual 73, 3) := dk_182 0 73 (dk_at dksJ17_toString_0 4 rfl rfl)
theorem dJ17_toString_7 : decode cJ17_toString 7 = .ok (.astore_n 1, 1) := dk_76 (dk_at dksJ17_toString_0 7 rfl rfl)
theorem dJ17_toString_8 : decode cJ17_toString 8 = .ok (.aload_n 0, 1) := dk_42 (dk_at dksJ17_toString_0 8 rfl rfl)
theorem dJ17_toString_9 : decode cJ17_toString 9 = .ok (.invokevirtual 78, 3) := dk_182 0 78 (dk_at dksJ17_toString_0 9 rfl rfl)
theorem dJ17_toString_12 : decode cJ17_toString 12 = .ok (.astore_n 2, 1) := dk_77 (dk_at dksJ17_toString_0 12 rfl rfl)
theorem dJ17_toString_13 : decode cJ17_toString 13 = .ok (.aload_n 2, 1) := dk_44 (dk_at dksJ17_toString_0 13 rfl rfl)
theorem dJ17_toString_14 : decode cJ17_toString 14 = .ok (.ifnull 29, 3) := dk_198 0 29 (dk_at dksJ17_toString_0 14 rfl rfl)
theorem dJ17_toString_17 : decode cJ17_toString 17 = .ok (.new 44, 3) := dk_187 0 44 (dk_at dksJ17_toString_0 17 rfl rfl)
theorem dJ17_toString_20 : decode cJ17_toString 20 = .ok (.dup, 1) := dk_89 (dk_at dksJ17_toString_0 20 rfl rfl)
theorem dJ17_toString_21 : decode cJ17_toString 21 = .ok (.invokespecial 46, 3) := dk_183 0 46 (dk_at dksJ17_toString_0 21 rfl rfl)
theorem dJ17_toString_24 : decode cJ17_toString 24 = .ok (.aload_n 1, 1) := dk_43 (dk_at dksJ17_toString_1 0 rfl rfl)
theorem dJ17_toString_25 : decode cJ17_toString 25 = .ok (.invokevirtual 49, 3) := dk_182 0 49 (dk_at dksJ17_toString_1 1 rfl rfl)
theorem dJ17_toString_28 : decode cJ17_toString 28 = .ok (.ldc 81, 2) := dk_18 81 (dk_at dksJ17_toString_1 4 rfl rfl)
theorem dJ17_toString_30 : decode cJ17_toString 30 = .ok (.invokevirtual 49, 3) := dk_182 0 49 (dk_at dksJ17_toString_1 6 rfl rfl)
theorem dJ17_toString_33 : decode cJ17_toString 33 = .ok (.aload_n 2, 1) := dk_44 (dk_at dksJ17_toString_1 9 rfl rfl)
theorem dJ17_toString_34 : decode cJ17_toString 34 = .ok (.invokevirtual 49, 3) := dk_182 0 49 (dk_at dksJ17_toString_1 10 rfl rfl)
theorem dJ17_toString_37 : decode cJ17_toString 37 = .ok (.invokevirtual 60, 3) := dk_182 0 60 (dk_at dksJ17_toString_1 13 rfl rfl)
theorem dJ17_toString_40 : decode cJ17_toString 40 = .ok (.goto 4, 3) := dk_167 0 4 (dk_at dksJ17_toString_1 16 rfl rfl)
theorem dJ17_toString_43 : decode cJ17_toString 43 = .ok (.aload_n 1, 1) := dk_43 (dk_at dksJ17_toString_1 19 rfl rfl)
theorem dJ17_toString_44 : decode cJ17_toString 44 = .ok (.areturn, 1) := dk_176 (dk_at dksJ17_toString_1 20 rfl rfl)
abbrev cJ17_getLocalizedMessage : ByteArray := prog_32_method_7_code
def yJ17_getLocalizedMessage : MethodName := ⟨RJ17, "getLocalizedMessage", "()Ljava/lang/String;"⟩
theorem dJ17_getLocalizedMessage_0 : decode cJ17_getLocalizedMessage 0 = .ok (.aload_n 0, 1) := by decide +kernel
theorem dJ17_getLocalizedMessage_1 : decode cJ17_getLocalizedMessage 1 = .ok (.invokevirtual 39, 3) := by decide +kernel
theorem dJ17_getLocalizedMessage_4 : decode cJ17_getLocalizedMessage 4 = .ok (.areturn, 1) := by decide +kernel
abbrev cJ17_getMessage : ByteArray := prog_32_method_6_code
def yJ17_getMessage : MethodName := ⟨RJ17, "getMessage", "()Ljava/lang/String;"⟩
theorem dJ17_getMessage_0 : decode cJ17_getMessage 0 = .ok (.aload_n 0, 1) := by decide +kernel
theorem dJ17_getMessage_1 : decode cJ17_getMessage 1 = .ok (.getfield 31, 3) := by decide +kernel
theorem dJ17_getMessage_4 : decode cJ17_getMessage 4 = .ok (.areturn, 1) := by decide +kernel
abbrev cJ17_init_3 : ByteArray := prog_32_method_5_code
def yJ17_init_3 : MethodName := ⟨RJ17, "<init>", "(Ljava/lang/String;Ljava/lang/Throwable;ZZ)V"⟩
def dkwJ17_init_3_2 : List UInt8 := [44, 181, 0, 7, 29, 154, 0, 8, 42, 1, 181, 0, 24, 177]
abbrev dktJ17_init_3_2 : List UInt8 := dkwJ17_init_3_2 ++ []
def dkwJ17_init_3_1 : List UInt8 := [21, 4, 153, 0, 11, 42, 182, 0, 27, 87, 167, 0, 8, 42, 1, 181, 0, 17, 42, 43, 181, 0, 31, 42]
abbrev dktJ17_init_3_1 : List UInt8 := dkwJ17_init_3_1 ++ dktJ17_init_3_2
def dkwJ17_init_3_0 : List UInt8 := [42, 183, 0, 1, 42, 42, 181, 0, 7, 42, 178, 0, 13, 181, 0, 17, 42, 178, 0, 20, 181, 0, 24]
abbrev dktJ17_init_3_0 : List UInt8 := dkwJ17_init_3_0 ++ dktJ17_init_3_1
theorem dksJ17_init_3_0 : cJ17_init_3.data.toList.drop 0 = dktJ17_init_3_0 := by decide +kernel
theorem dksJ17_init_3_1 : cJ17_init_3.data.toList.drop 23 = dktJ17_init_3_1 := dk_seg dksJ17_init_3_0 23 rfl rfl
theorem dksJ17_init_3_2 : cJ17_init_3.data.toList.drop 47 = dktJ17_init_3_2 := dk_seg dksJ17_init_3_1 24 rfl rfl
theorem dJ17_init_3_0 : decode cJ17_init_3 0 = .ok (.aload_n 0, 1) := dk_42 (dk_at dksJ17_init_3_0 0 rfl rfl)
theorem dJ17_init_3_1 : decode cJ17_init_3 1 = .ok (.invokespecial 1, 3) := dk_183 0 1 (dk_at dksJ17_init_3_0 1 rfl rfl)
theorem dJ17_init_3_4 : decode cJ17_init_3 4 = .ok (.aload_n 0, 1) := dk_42 (dk_at dksJ17_init_3_0 4 rfl rfl)
theorem dJ17_init_3_5 : decode cJ17_init_3 5 = .ok (.aload_n 0, 1) := dk_42 (dk_at dksJ17_init_3_0 5 rfl rfl)
theorem dJ17_init_3_6 : decode cJ17_init_3 6 = .ok (.putfield 7, 3) := dk_181 0 7 (dk_at dksJ17_init_3_0 6 rfl rfl)
theorem dJ17_init_3_9 : decode cJ17_init_3 9 = .ok (.aload_n 0, 1) := dk_42 (dk_at dksJ17_init_3_0 9 rfl rfl)
theorem dJ17_init_3_10 : decode cJ17_init_3 10 = .ok (.getstatic 13, 3) := dk_178 0 13 (dk_at dksJ17_init_3_0 10 rfl rfl)
theorem dJ17_init_3_13 : decode cJ17_init_3 13 = .ok (.putfield 17, 3) := dk_181 0 17 (dk_at dksJ17_init_3_0 13 rfl rfl)
theorem dJ17_init_3_16 : decode cJ17_init_3 16 = .ok (.aload_n 0, 1) := dk_42 (dk_at dksJ17_init_3_0 16 rfl rfl)
theorem dJ17_init_3_17 : decode cJ17_init_3 17 = .ok (.getstatic 20, 3) := dk_178 0 20 (dk_at dksJ17_init_3_0 17 rfl rfl)
theorem dJ17_init_3_20 : decode cJ17_init_3 20 = .ok (.putfield 24, 3) := dk_181 0 24 (dk_at dksJ17_init_3_0 20 rfl rfl)
theorem dJ17_init_3_23 : decode cJ17_init_3 23 = .ok (.iload 4, 2) := dk_21 4 (dk_at dksJ17_init_3_1 0 rfl rfl)
theorem dJ17_init_3_25 : decode cJ17_init_3 25 = .ok (.ifCond .eq 11, 3) := dk_153 0 11 (dk_at dksJ17_init_3_1 2 rfl rfl)
theorem dJ17_init_3_28 : decode cJ17_init_3 28 = .ok (.aload_n 0, 1) := dk_42 (dk_at dksJ17_init_3_1 5 rfl rfl)
theorem dJ17_init_3_29 : decode cJ17_init_3 29 = .ok (.invokevirtual 27, 3) := dk_182 0 27 (dk_at dksJ17_init_3_1 6 rfl rfl)
theorem dJ17_init_3_32 : decode cJ17_init_3 32 = .ok (.pop, 1) := dk_87 (dk_at dksJ17_init_3_1 9 rfl rfl)
theorem dJ17_init_3_33 : decode cJ17_init_3 33 = .ok (.goto 8, 3) := dk_167 0 8 (dk_at dksJ17_init_3_1 10 rfl rfl)
theorem dJ17_init_3_36 : decode cJ17_init_3 36 = .ok (.aload_n 0, 1) := dk_42 (dk_at dksJ17_init_3_1 13 rfl rfl)
theorem dJ17_init_3_37 : decode cJ17_init_3 37 = .ok (.aconst_null, 1) := dk_1 (dk_at dksJ17_init_3_1 14 rfl rfl)
theorem dJ17_init_3_38 : decode cJ17_init_3 38 = .ok (.putfield 17, 3) := dk_181 0 17 (dk_at dksJ17_init_3_1 15 rfl rfl)
theorem dJ17_init_3_41 : decode cJ17_init_3 41 = .ok (.aload_n 0, 1) := dk_42 (dk_at dksJ17_init_3_1 18 rfl rfl)
theorem dJ17_init_3_42 : decode cJ17_init_3 42 = .ok (.aload_n 1, 1) := dk_43 (dk_at dksJ17_init_3_1 19 rfl rfl)
theorem dJ17_init_3_43 : decode cJ17_init_3 43 = .ok (.putfield 31, 3) := dk_181 0 31 (dk_at dksJ17_init_3_1 20 rfl rfl)
theorem dJ17_init_3_46 : decode cJ17_init_3 46 = .ok (.aload_n 0, 1) := dk_42 (dk_at dksJ17_init_3_1 23 rfl rfl)
theorem dJ17_init_3_47 : decode cJ17_init_3 47 = .ok (.aload_n 2, 1) := dk_44 (dk_at dksJ17_init_3_2 0 rfl rfl)
theorem dJ17_init_3_48 : decode cJ17_init_3 48 = .ok (.putfield 7, 3) := dk_181 0 7 (dk_at dksJ17_init_3_2 1 rfl rfl)
theorem dJ17_init_3_51 : decode cJ17_init_3 51 = .ok (.iload_n 3, 1) := dk_29 (dk_at dksJ17_init_3_2 4 rfl rfl)
theorem dJ17_init_3_52 : decode cJ17_init_3 52 = .ok (.ifCond .ne 8, 3) := dk_154 0 8 (dk_at dksJ17_init_3_2 5 rfl rfl)
theorem dJ17_init_3_55 : decode cJ17_init_3 55 = .ok (.aload_n 0, 1) := dk_42 (dk_at dksJ17_init_3_2 8 rfl rfl)
theorem dJ17_init_3_56 : decode cJ17_init_3 56 = .ok (.aconst_null, 1) := dk_1 (dk_at dksJ17_init_3_2 9 rfl rfl)
theorem dJ17_init_3_57 : decode cJ17_init_3 57 = .ok (.putfield 24, 3) := dk_181 0 24 (dk_at dksJ17_init_3_2 10 rfl rfl)
theorem dJ17_init_3_60 : decode cJ17_init_3 60 = .ok (.return_, 1) := dk_177 (dk_at dksJ17_init_3_2 13 rfl rfl)
theorem q86 : (Jvm.Cond.initialized "java/lang/Throwable") ∈ lw_all := lw_g (lw_at lw_m1 23 rfl) rfl
theorem q590 : (Jvm.Cond.declares ({ cls := "java/lang/Throwable", name := "<init>", desc := "()V" } : Jvm.MethodName)) ∈ lw_tbl := lw_at lw_m3 47 rfl
theorem q591 : (Jvm.Cond.declares ({ cls := "java/lang/Throwable", name := "<init>", desc := "(Ljava/lang/String;)V" } : Jvm.MethodName)) ∈ lw_tbl := lw_at lw_m3 48 rfl
theorem q595 : (Jvm.Cond.lays "java/lang/Throwable" "java/lang/Throwable" "cause" "Ljava/lang/Throwable;") ∈ lw_all := lw_g (lw_at lw_m3 52 rfl) rfl
theorem q597 : (Jvm.Cond.lays "java/lang/Throwable" "java/lang/Throwable" "stackTrace" "[Ljava/lang/StackTraceElement;") ∈ lw_all := lw_g (lw_at lw_m3 54 rfl) rfl
theorem q599 : (Jvm.Cond.lays "java/lang/Throwable" "java/lang/Throwable" "suppressedExceptions" "Ljava/util/List;") ∈ lw_all := lw_g (lw_at lw_m3 56 rfl) rfl
theorem q601 : (Jvm.Cond.lays "java/lang/Throwable" "java/lang/Throwable" "detailMessage" "Ljava/lang/String;") ∈ lw_all := lw_g (lw_at lw_m3 58 rfl) rfl
theorem q603 : (Jvm.Cond.lays "java/lang/Throwable" "java/lang/Throwable" "backtrace" "Ljava/lang/Object;") ∈ lw_all := lw_g (lw_at lw_m3 60 rfl) rfl
theorem q604 : (Jvm.Cond.fieldLink "java/lang/Throwable" (198 : Nat) "java/lang/Throwable" "backtrace" "Ljava/lang/Object;") ∈ lw_all := lw_g (lw_at lw_m3 61 rfl) rfl
theorem q605 : (Jvm.Cond.superclass "java/lang/Throwable" "java/lang/Object") ∈ lw_all := lw_g (lw_at lw_m3 62 rfl) rfl
theorem q606 : (Jvm.Cond.instanceMethod ({ cls := "java/lang/Throwable", name := "<init>", desc := "()V" } : Jvm.MethodName)) ∈ lw_all := lw_g (lw_at lw_m3 63 rfl) rfl
theorem q607 : (Jvm.Cond.code ({ cls := "java/lang/Throwable", name := "<init>", desc := "()V" } : Jvm.MethodName) prog_32_method_1_code (1 : Nat) (Option.none : Option Jvm.ClassFile.FieldType)) ∈ lw_all := lw_g (lw_at lw_m3 64 rfl) rfl
theorem q608 : (Jvm.Cond.methodLink "java/lang/Throwable" (1 : Nat) ({ cls := "java/lang/Object", name := "<init>", desc := "()V" } : Jvm.MethodName)) ∈ lw_all := lw_g (lw_at lw_m3 65 rfl) rfl
theorem q609 : (Jvm.Cond.fieldLink "java/lang/Throwable" (13 : Nat) "java/lang/Throwable" "UNASSIGNED_STACK" "[Ljava/lang/StackTraceElement;") ∈ lw_all := lw_g (lw_at lw_m3 66 rfl) rfl
theorem q610 : (Jvm.Cond.laysStatic "java/lang/Throwable" "UNASSIGNED_STACK" "[Ljava/lang/StackTraceElement;") ∈ lw_tbl := lw_at lw_m3 67 rfl
theorem q611 : (Jvm.Cond.fieldLink "java/lang/Throwable" (20 : Nat) "java/lang/Throwable" "SUPPRESSED_SENTINEL" "Ljava/util/List;") ∈ lw_all := lw_g (lw_at lw_m3 68 rfl) rfl
theorem q612 : (Jvm.Cond.laysStatic "java/lang/Throwable" "SUPPRESSED_SENTINEL" "Ljava/util/List;") ∈ lw_tbl := lw_at lw_m3 69 rfl
theorem q613 : (Jvm.Cond.methodLink "java/lang/Throwable" (27 : Nat) ({ cls := "java/lang/Throwable", name := "fillInStackTrace", desc := "()Ljava/lang/Throwable;" } : Jvm.MethodName)) ∈ lw_all := lw_g (lw_at lw_m3 70 rfl) rfl
theorem q614 : (Jvm.Cond.instanceMethod ({ cls := "java/lang/Throwable", name := "fillInStackTrace", desc := "()Ljava/lang/Throwable;" } : Jvm.MethodName)) ∈ lw_all := lw_g (lw_at lw_m3 71 rfl) rfl
theorem q615 : (Jvm.Cond.sameMethod "java/lang/Throwable" "java/lang/Throwable" "fillInStackTrace" "()Ljava/lang/Throwable;") ∈ lw_all := lw_g (lw_at lw_m3 72 rfl) rfl
theorem q618 : (Jvm.Cond.codeSync ({ cls := "java/lang/Throwable", name := "fillInStackTrace", desc := "()Ljava/lang/Throwable;" } : Jvm.MethodName) prog_32_method_18_code (1 : Nat) (Option.some (Jvm.ClassFile.FieldType.object "java/lang/Throwable"))) ∈ lw_all := lw_g (lw_at lw_m3 75 rfl) rfl
theorem q619 : (Jvm.Cond.methodLink "java/lang/Throwable" (202 : Nat) ({ cls := "java/lang/Throwable", name := "fillInStackTrace", desc := "(I)Ljava/lang/Throwable;" } : Jvm.MethodName)) ∈ lw_all := lw_g (lw_at lw_m3 76 rfl) rfl
theorem q620 : (Jvm.Cond.privateMethod ({ cls := "java/lang/Throwable", name := "fillInStackTrace", desc := "(I)Ljava/lang/Throwable;" } : Jvm.MethodName)) ∈ lw_tbl := lw_at lw_m3 77 rfl
theorem q621 : (Jvm.Cond.instanceMethod ({ cls := "java/lang/Throwable", name := "fillInStackTrace", desc := "(I)Ljava/lang/Throwable;" } : Jvm.MethodName)) ∈ lw_all := lw_g (lw_at lw_m3 78 rfl) rfl
theorem q622 : (Jvm.Cond.instantiable "java/lang/Throwable" (6 : Nat)) ∈ lw_all := lw_g (lw_at lw_m3 79 rfl) rfl
theorem q623 : (Jvm.Cond.native ({ cls := "java/lang/Throwable", name := "fillInStackTrace", desc := "(I)Ljava/lang/Throwable;" } : Jvm.MethodName)) ∈ lw_all := lw_g (lw_at lw_m3 80 rfl) rfl
theorem q634 : (Jvm.Cond.instanceMethod ({ cls := "java/lang/Throwable", name := "<init>", desc := "(Ljava/lang/Throwable;)V" } : Jvm.MethodName)) ∈ lw_all := lw_g (lw_at lw_m3 91 rfl) rfl
theorem q635 : (Jvm.Cond.code ({ cls := "java/lang/Throwable", name := "<init>", desc := "(Ljava/lang/Throwable;)V" } : Jvm.MethodName) prog_32_method_4_code (2 : Nat) (Option.none : Option Jvm.ClassFile.FieldType)) ∈ lw_all := lw_g (lw_at lw_m3 92 rfl) rfl
theorem q636 : (Jvm.Cond.methodLink "java/lang/Throwable" (35 : Nat) ({ cls := "java/lang/Throwable", name := "toString", desc := "()Ljava/lang/String;" } : Jvm.MethodName)) ∈ lw_all := lw_g (lw_at lw_m3 93 rfl) rfl
theorem q637 : (Jvm.Cond.instanceMethod ({ cls := "java/lang/Throwable", name := "toString", desc := "()Ljava/lang/String;" } : Jvm.MethodName)) ∈ lw_all := lw_g (lw_at lw_m3 94 rfl) rfl
theorem q638 : (Jvm.Cond.sameMethod "java/lang/Throwable" "java/lang/Throwable" "toString" "()Ljava/lang/String;") ∈ lw_all := lw_g (lw_at lw_m3 95 rfl) rfl
theorem q642 : (Jvm.Cond.code ({ cls := "java/lang/Throwable", name := "toString", desc := "()Ljava/lang/String;" } : Jvm.MethodName) prog_32_method_11_code (3 : Nat) (Option.some (Jvm.ClassFile.FieldType.object "java/lang/String"))) ∈ lw_all := lw_g (lw_at lw_m3 99 rfl) rfl
theorem q643 : (Jvm.Cond.methodLink "java/lang/Throwable" (69 : Nat) ({ cls := "java/lang/Object", name := "getClass", desc := "()Ljava/lang/Class;" } : Jvm.MethodName)) ∈ lw_all := lw_g (lw_at lw_m3 100 rfl) rfl
theorem q644 : (Jvm.Cond.methodLink "java/lang/Throwable" (78 : Nat) ({ cls := "java/lang/Throwable", name := "getLocalizedMessage", desc := "()Ljava/lang/String;" } : Jvm.MethodName)) ∈ lw_all := lw_g (lw_at lw_m3 101 rfl) rfl
theorem q645 : (Jvm.Cond.instanceMethod ({ cls := "java/lang/Throwable", name := "getLocalizedMessage", desc := "()Ljava/lang/String;" } : Jvm.MethodName)) ∈ lw_all := lw_g (lw_at lw_m3 102 rfl) rfl
theorem q646 : (Jvm.Cond.sameMethod "java/lang/Throwable" "java/lang/Throwable" "getLocalizedMessage" "()Ljava/lang/String;") ∈ lw_all := lw_g (lw_at lw_m3 103 rfl) rfl
theorem q650 : (Jvm.Cond.code ({ cls := "java/lang/Throwable", name := "getLocalizedMessage", desc := "()Ljava/lang/String;" } : Jvm.MethodName) prog_32_method_7_code (1 : Nat) (Option.some (Jvm.ClassFile.FieldType.object "java/lang/String"))) ∈ lw_all := lw_g (lw_at lw_m3 107 rfl) rfl
theorem q651 : (Jvm.Cond.methodLink "java/lang/Throwable" (39 : Nat) ({ cls := "java/lang/Throwable", name := "getMessage", desc := "()Ljava/lang/String;" } : Jvm.MethodName)) ∈ lw_all := lw_g (lw_at lw_m3 108 rfl) rfl
theorem q652 : (Jvm.Cond.instanceMethod ({ cls := "java/lang/Throwable", name := "getMessage", desc := "()Ljava/lang/String;" } : Jvm.MethodName)) ∈ lw_all := lw_g (lw_at lw_m3 109 rfl) rfl
theorem q653 : (Jvm.Cond.sameMethod "java/lang/Throwable" "java/lang/Throwable" "getMessage" "()Ljava/lang/String;") ∈ lw_all := lw_g (lw_at lw_m3 110 rfl) rfl
theorem q657 : (Jvm.Cond.code ({ cls := "java/lang/Throwable", name := "getMessage", desc := "()Ljava/lang/String;" } : Jvm.MethodName) prog_32_method_6_code (1 : Nat) (Option.some (Jvm.ClassFile.FieldType.object "java/lang/String"))) ∈ lw_all := lw_g (lw_at lw_m3 114 rfl) rfl
theorem q658 : (Jvm.Cond.classLink "java/lang/Throwable" (44 : Nat) "java/lang/StringBuilder") ∈ lw_all := lw_g (lw_at lw_m3 115 rfl) rfl
theorem q659 : (Jvm.Cond.methodLink "java/lang/Throwable" (46 : Nat) ({ cls := "java/lang/StringBuilder", name := "<init>", desc := "()V" } : Jvm.MethodName)) ∈ lw_all := lw_g (lw_at lw_m3 116 rfl) rfl
theorem q660 : (Jvm.Cond.methodLink "java/lang/Throwable" (49 : Nat) ({ cls := "java/lang/StringBuilder", name := "append", desc := "(Ljava/lang/String;)Ljava/lang/StringBuilder;" } : Jvm.MethodName)) ∈ lw_all := lw_g (lw_at lw_m3 117 rfl) rfl
theorem q763 : (Jvm.Cond.stringRef "java/lang/Throwable" (81 : Nat) ": ") ∈ lw_tbl := lw_at lw_m3 220 rfl
theorem q764 : (Jvm.Cond.methodLink "java/lang/Throwable" (60 : Nat) ({ cls := "java/lang/StringBuilder", name := "toString", desc := "()Ljava/lang/String;" } : Jvm.MethodName)) ∈ lw_all := lw_g (lw_at lw_m3 221 rfl) rfl
theorem q826 : (Jvm.Cond.fieldLink "java/lang/Throwable" (198 : Nat) "java/lang/Throwable" "backtrace" "Ljava/lang/Object;") ∈ lw_all := lw_g (lw_at lw_m4 43 rfl) rfl
theorem q827 : (Jvm.Cond.fieldLink "java/lang/Throwable" (31 : Nat) "java/lang/Throwable" "detailMessage" "Ljava/lang/String;") ∈ lw_all := lw_g (lw_at lw_m4 44 rfl) rfl
theorem q828 : (Jvm.Cond.fieldLink "java/lang/Throwable" (7 : Nat) "java/lang/Throwable" "cause" "Ljava/lang/Throwable;") ∈ lw_all := lw_g (lw_at lw_m4 45 rfl) rfl
theorem q829 : (Jvm.Cond.fieldLink "java/lang/Throwable" (17 : Nat) "java/lang/Throwable" "stackTrace" "[Ljava/lang/StackTraceElement;") ∈ lw_all := lw_g (lw_at lw_m4 46 rfl) rfl
theorem q830 : (Jvm.Cond.fieldLink "java/lang/Throwable" (24 : Nat) "java/lang/Throwable" "suppressedExceptions" "Ljava/util/List;") ∈ lw_all := lw_g (lw_at lw_m4 47 rfl) rfl
theorem q831 : (Jvm.Cond.soleField "java/lang/Throwable" "backtrace") ∈ lw_all := lw_g (lw_at lw_m4 48 rfl) rfl
theorem q832 : (Jvm.Cond.soleField "java/lang/Throwable" "detailMessage") ∈ lw_all := lw_g (lw_at lw_m4 49 rfl) rfl
theorem q833 : (Jvm.Cond.soleField "java/lang/Throwable" "cause") ∈ lw_all := lw_g (lw_at lw_m4 50 rfl) rfl
theorem q834 : (Jvm.Cond.soleField "java/lang/Throwable" "stackTrace") ∈ lw_all := lw_g (lw_at lw_m4 51 rfl) rfl
theorem q836 : (Jvm.Cond.soleField "java/lang/Throwable" "depth") ∈ lw_all := lw_g (lw_at lw_m4 53 rfl) rfl
theorem q837 : (Jvm.Cond.soleField "java/lang/Throwable" "suppressedExceptions") ∈ lw_all := lw_g (lw_at lw_m4 54 rfl) rfl
theorem q1069 : (Jvm.Cond.instanceMethod ({ cls := "java/lang/Throwable", name := "<init>", desc := "(Ljava/lang/String;Ljava/lang/Throwable;ZZ)V" } : Jvm.MethodName)) ∈ lw_all := lw_g (lw_at lw_m5 46 rfl) rfl
theorem q1070 : (Jvm.Cond.code ({ cls := "java/lang/Throwable", name := "<init>", desc := "(Ljava/lang/String;Ljava/lang/Throwable;ZZ)V" } : Jvm.MethodName) prog_32_method_5_code (5 : Nat) (Option.none : Option Jvm.ClassFile.FieldType)) ∈ lw_all := lw_g (lw_at lw_m5 47 rfl) rfl
theorem q2233 : (Jvm.Cond.sameMethod "java/lang/Throwable" "java/lang/Throwable" "fillInStackTrace" "(I)Ljava/lang/Throwable;") ∈ lw_all := lw_g (lw_at lw_m10 10 rfl) rfl
theorem q2275 : (Jvm.Cond.castable "java/lang/Throwable" "java/lang/Object") ∈ lw_tbl := lw_at lw_m10 52 rfl
theorem in_J17 : ∀ w ∈ wsJ170, w ∈ lw_all := lw_in wsJ170 [595, 597, 599, 601, 603] (by decide +kernel) (by decide +kernel)

/-! java/lang/Exception -/
set_option maxRecDepth 100000
def RJ18 : String := "java/lang/Exception"
abbrev cJ18_init : ByteArray := prog_19_method_4_code
def yJ18_init : MethodName := ⟨RJ18, "<init>", "(Ljava/lang/Throwable;)V"⟩
def dkwJ18_init_0 : List UInt8 := [42, 43, 183, 0, 13, 177]
abbrev dktJ18_init_0 : List UInt8 := dkwJ18_init_0 ++ []
theorem dksJ18_init_0 : cJ18_init.data.toList.drop 0 = dktJ18_init_0 := by decide +kernel
theorem dJ18_init_0 : decode cJ18_init 0 = .ok (.aload_n 0, 1) := dk_42 (dk_at dksJ18_init_0 0 rfl rfl)
theorem dJ18_init_1 : decode cJ18_init 1 = .ok (.aload_n 1, 1) := dk_43 (dk_at dksJ18_init_0 1 rfl rfl)
theorem dJ18_init_2 : decode cJ18_init 2 = .ok (.invokespecial 13, 3) := dk_183 0 13 (dk_at dksJ18_init_0 2 rfl rfl)
theorem dJ18_init_5 : decode cJ18_init 5 = .ok (.return_, 1) := dk_177 (dk_at dksJ18_init_0 5 rfl rfl)
abbrev cJ18_init_2 : ByteArray := prog_19_method_5_code
def yJ18_init_2 : MethodName := ⟨RJ18, "<init>", "(Ljava/lang/String;Ljava/lang/Throwable;ZZ)V"⟩
def dkwJ18_init_2_0 : List UInt8 := [42, 43, 44, 29, 21, 4, 183, 0, 16, 177]
abbrev dktJ18_init_2_0 : List UInt8 := dkwJ18_init_2_0 ++ []
theorem dksJ18_init_2_0 : cJ18_init_2.data.toList.drop 0 = dktJ18_init_2_0 := by decide +kernel
theorem dJ18_init_2_0 : decode cJ18_init_2 0 = .ok (.aload_n 0, 1) := dk_42 (dk_at dksJ18_init_2_0 0 rfl rfl)
theorem dJ18_init_2_1 : decode cJ18_init_2 1 = .ok (.aload_n 1, 1) := dk_43 (dk_at dksJ18_init_2_0 1 rfl rfl)
theorem dJ18_init_2_2 : decode cJ18_init_2 2 = .ok (.aload_n 2, 1) := dk_44 (dk_at dksJ18_init_2_0 2 rfl rfl)
theorem dJ18_init_2_3 : decode cJ18_init_2 3 = .ok (.iload_n 3, 1) := dk_29 (dk_at dksJ18_init_2_0 3 rfl rfl)
theorem dJ18_init_2_4 : decode cJ18_init_2 4 = .ok (.iload 4, 2) := dk_21 4 (dk_at dksJ18_init_2_0 4 rfl rfl)
theorem dJ18_init_2_6 : decode cJ18_init_2 6 = .ok (.invokespecial 16, 3) := dk_183 0 16 (dk_at dksJ18_init_2_0 6 rfl rfl)
theorem dJ18_init_2_9 : decode cJ18_init_2 9 = .ok (.return_, 1) := dk_177 (dk_at dksJ18_init_2_0 9 rfl rfl)
theorem q87 : (Jvm.Cond.initialized "java/lang/Exception") ∈ lw_all := lw_g (lw_at lw_m1 24 rfl) rfl
theorem q588 : (Jvm.Cond.declares ({ cls := "java/lang/Exception", name := "<init>", desc := "()V" } : Jvm.MethodName)) ∈ lw_tbl := lw_at lw_m3 45 rfl
theorem q589 : (Jvm.Cond.declares ({ cls := "java/lang/Exception", name := "<init>", desc := "(Ljava/lang/String;)V" } : Jvm.MethodName)) ∈ lw_tbl := lw_at lw_m3 46 rfl
theorem q631 : (Jvm.Cond.instanceMethod ({ cls := "java/lang/Exception", name := "<init>", desc := "(Ljava/lang/Throwable;)V" } : Jvm.MethodName)) ∈ lw_all := lw_g (lw_at lw_m3 88 rfl) rfl
theorem q632 : (Jvm.Cond.code ({ cls := "java/lang/Exception", name := "<init>", desc := "(Ljava/lang/Throwable;)V" } : Jvm.MethodName) prog_19_method_4_code (2 : Nat) (Option.none : Option Jvm.ClassFile.FieldType)) ∈ lw_all := lw_g (lw_at lw_m3 89 rfl) rfl
theorem q633 : (Jvm.Cond.methodLink "java/lang/Exception" (13 : Nat) ({ cls := "java/lang/Throwable", name := "<init>", desc := "(Ljava/lang/Throwable;)V" } : Jvm.MethodName)) ∈ lw_all := lw_g (lw_at lw_m3 90 rfl) rfl
theorem q1066 : (Jvm.Cond.instanceMethod ({ cls := "java/lang/Exception", name := "<init>", desc := "(Ljava/lang/String;Ljava/lang/Throwable;ZZ)V" } : Jvm.MethodName)) ∈ lw_all := lw_g (lw_at lw_m5 43 rfl) rfl
theorem q1067 : (Jvm.Cond.code ({ cls := "java/lang/Exception", name := "<init>", desc := "(Ljava/lang/String;Ljava/lang/Throwable;ZZ)V" } : Jvm.MethodName) prog_19_method_5_code (5 : Nat) (Option.none : Option Jvm.ClassFile.FieldType)) ∈ lw_all := lw_g (lw_at lw_m5 44 rfl) rfl
theorem q1068 : (Jvm.Cond.methodLink "java/lang/Exception" (16 : Nat) ({ cls := "java/lang/Throwable", name := "<init>", desc := "(Ljava/lang/String;Ljava/lang/Throwable;ZZ)V" } : Jvm.MethodName)) ∈ lw_all := lw_g (lw_at lw_m5 45 rfl) rfl

/-! java/lang/RuntimeException -/
set_option maxRecDepth 100000
def RJ19 : String := "java/lang/RuntimeException"
abbrev cJ19_init : ByteArray := prog_25_method_4_code
def yJ19_init : MethodName := ⟨RJ19, "<init>", "(Ljava/lang/Throwable;)V"⟩
def dkwJ19_init_0 : List UInt8 := [42, 43, 183, 0, 13, 177]
abbrev dktJ19_init_0 : List UInt8 := dkwJ19_init_0 ++ []
theorem dksJ19_init_0 : cJ19_init.data.toList.drop 0 = dktJ19_init_0 := by decide +kernel
theorem dJ19_init_0 : decode cJ19_init 0 = .ok (.aload_n 0, 1) := dk_42 (dk_at dksJ19_init_0 0 rfl rfl)
theorem dJ19_init_1 : decode cJ19_init 1 = .ok (.aload_n 1, 1) := dk_43 (dk_at dksJ19_init_0 1 rfl rfl)
theorem dJ19_init_2 : decode cJ19_init 2 = .ok (.invokespecial 13, 3) := dk_183 0 13 (dk_at dksJ19_init_0 2 rfl rfl)
theorem dJ19_init_5 : decode cJ19_init 5 = .ok (.return_, 1) := dk_177 (dk_at dksJ19_init_0 5 rfl rfl)
theorem q88 : (Jvm.Cond.initialized "java/lang/RuntimeException") ∈ lw_all := lw_g (lw_at lw_m1 25 rfl) rfl
theorem q586 : (Jvm.Cond.declares ({ cls := "java/lang/RuntimeException", name := "<init>", desc := "()V" } : Jvm.MethodName)) ∈ lw_tbl := lw_at lw_m3 43 rfl
theorem q587 : (Jvm.Cond.declares ({ cls := "java/lang/RuntimeException", name := "<init>", desc := "(Ljava/lang/String;)V" } : Jvm.MethodName)) ∈ lw_tbl := lw_at lw_m3 44 rfl
theorem q628 : (Jvm.Cond.instanceMethod ({ cls := "java/lang/RuntimeException", name := "<init>", desc := "(Ljava/lang/Throwable;)V" } : Jvm.MethodName)) ∈ lw_all := lw_g (lw_at lw_m3 85 rfl) rfl
theorem q629 : (Jvm.Cond.code ({ cls := "java/lang/RuntimeException", name := "<init>", desc := "(Ljava/lang/Throwable;)V" } : Jvm.MethodName) prog_25_method_4_code (2 : Nat) (Option.none : Option Jvm.ClassFile.FieldType)) ∈ lw_all := lw_g (lw_at lw_m3 86 rfl) rfl
theorem q630 : (Jvm.Cond.methodLink "java/lang/RuntimeException" (13 : Nat) ({ cls := "java/lang/Exception", name := "<init>", desc := "(Ljava/lang/Throwable;)V" } : Jvm.MethodName)) ∈ lw_all := lw_g (lw_at lw_m3 87 rfl) rfl

/-! java/util/ArrayList -/
set_option maxRecDepth 100000
def RJ2 : String := "java/util/ArrayList"
def TJ2 : u_T := fun k => match k with
  | 0 => ("java/util/AbstractList", "modCount", "I", false)
  | 1 => ("java/util/ArrayList", "elementData", "[Ljava/lang/Object;", false)
  | _ => ("java/util/ArrayList", "size", "I", false)
def tyJ2 : Nat → FieldType := fun k => match k with
  | 0 => .int
  | 1 => .array (.object "java/lang/Object")
  | _ => .int
abbrev wsJ20 : List Cond := u_ws RJ2 TJ2 3
theorem nmJ2 : ∀ a, a < 3 → ∀ b, b < 3 → a ≠ b → (TJ2 a).2.1 ≠ (TJ2 b).2.1 := by decide +kernel
theorem tyJ2_ok : ∀ k, k < 3 → parseFieldDescriptor (TJ2 k).2.2.1 = some (tyJ2 k) := by decide +kernel
abbrev cJ2_init : ByteArray := prog_41_method_1_code
def yJ2_init : MethodName := ⟨RJ2, "<init>", "(I)V"⟩
def dkwJ2_init_2 : List UInt8 := [182, 0, 25, 27, 182, 0, 29, 182, 0, 32, 183, 0, 36, 191, 177]
abbrev dktJ2_init_2 : List UInt8 := dkwJ2_init_2 ++ []
def dkwJ2_init_1 : List UInt8 := [178, 0, 15, 181, 0, 9, 167, 0, 30, 187, 0, 18, 89, 187, 0, 20, 89, 183, 0, 22, 18, 23]
abbrev dktJ2_init_1 : List UInt8 := dkwJ2_init_1 ++ dktJ2_init_2
def dkwJ2_init_0 : List UInt8 := [42, 183, 0, 1, 27, 158, 0, 14, 42, 27, 189, 0, 7, 181, 0, 9, 167, 0, 44, 27, 154, 0, 13, 42]
abbrev dktJ2_init_0 : List UInt8 := dkwJ2_init_0 ++ dktJ2_init_1
theorem dksJ2_init_0 : cJ2_init.data.toList.drop 0 = dktJ2_init_0 := by decide +kernel
theorem dksJ2_init_1 : cJ2_init.data.toList.drop 24 = dktJ2_init_1 := dk_seg dksJ2_init_0 24 rfl rfl
theorem dksJ2_init_2 : cJ2_init.data.toList.drop 46 = dktJ2_init_2 := dk_seg dksJ2_init_1 22 rfl rfl
theorem dJ2_init_0 : decode cJ2_init 0 = .ok (.aload_n 0, 1) := dk_42 (dk_at dksJ2_init_0 0 rfl rfl)
theorem dJ2_init_1 : decode cJ2_init 1 = .ok (.invokespecial 1, 3) := dk_183 0 1 (dk_at dksJ2_init_0 1 rfl rfl)
theorem dJ2_init_4 : decode cJ2_init 4 = .ok (.iload_n 1, 1) := dk_27 (dk_at dksJ2_init_0 4 rfl rfl)
theorem dJ2_init_5 : decode cJ2_init 5 = .ok (.ifCond .le 14, 3) := dk_158 0 14 (dk_at dksJ2_init_0 5 rfl rfl)
theorem dJ2_init_8 : decode cJ2_init 8 = .ok (.aload_n 0, 1) := dk_42 (dk_at dksJ2_init_0 8 rfl rfl)
theorem dJ2_init_9 : decode cJ2_init 9 = .ok (.iload_n 1, 1) := dk_27 (dk_at dksJ2_init_0 9 rfl rfl)
theorem dJ2_init_10 : decode cJ2_init 10 = .ok (.anewarray 7, 3) := dk_189 0 7 (dk_at dksJ2_init_0 10 rfl rfl)
theorem dJ2_init_13 : decode cJ2_init 13 = .ok (.putfield 9, 3) := dk_181 0 9 (dk_at dksJ2_init_0 13 rfl rfl)
theorem dJ2_init_16 : decode cJ2_init 16 = .ok (.goto 44, 3) := dk_167 0 44 (dk_at dksJ2_init_0 16 rfl rfl)
theorem dJ2_init_19 : decode cJ2_init 19 = .ok (.iload_n 1, 1) := dk_27 (dk_at dksJ2_init_0 19 rfl rfl)
theorem dJ2_init_20 : decode cJ2_init 20 = .ok (.ifCond .ne 13, 3) := dk_154 0 13 (dk_at dksJ2_init_0 20 rfl rfl)
theorem dJ2_init_23 : decode cJ2_init 23 = .ok (.aload_n 0, 1) := dk_42 (dk_at dksJ2_init_0 23 rfl rfl)
theorem dJ2_init_24 : decode cJ2_init 24 = .ok (.getstatic 15, 3) := dk_178 0 15 (dk_at dksJ2_init_1 0 rfl rfl)
theorem dJ2_init_27 : decode cJ2_init 27 = .ok (.putfield 9, 3) := dk_181 0 9 (dk_at dksJ2_init_1 3 rfl rfl)
theorem dJ2_init_30 : decode cJ2_init 30 = .ok (.goto 30, 3) := dk_167 0 30 (dk_at dksJ2_init_1 6 rfl rfl)
theorem dJ2_init_33 : decode cJ2_init 33 = .ok (.new 18, 3) := dk_187 0 18 (dk_at dksJ2_init_1 9 rfl rfl)
theorem dJ2_init_36 : decode cJ2_init 36 = .ok (.dup, 1) := dk_89 (dk_at dksJ2_init_1 12 rfl rfl)
theorem dJ2_init_37 : decode cJ2_init 37 = .ok (.new 20, 3) := dk_187 0 20 (dk_at dksJ2_init_1 13 rfl rfl)
theorem dJ2_init_40 : decode cJ2_init 40 = .ok (.dup, 1) := dk_89 (dk_at dksJ2_init_1 16 rfl rfl)
theorem dJ2_init_41 : decode cJ2_init 41 = .ok (.invokespecial 22, 3) := dk_183 0 22 (dk_at dksJ2_init_1 17 rfl rfl)
theorem dJ2_init_44 : decode cJ2_init 44 = .ok (.ldc 23, 2) := dk_18 23 (dk_at dksJ2_init_1 20 rfl rfl)
theorem dJ2_init_46 : decode cJ2_init 46 = .ok (.invokevirtual 25, 3) := dk_182 0 25 (dk_at dksJ2_init_2 0 rfl rfl)
theorem dJ2_init_49 : decode cJ2_init 49 = .ok (.iload_n 1, 1) := dk_27 (dk_at dksJ2_init_2 3 rfl rfl)
theorem dJ2_init_50 : decode cJ2_init 50 = .ok (.invokevirtual 29, 3) := dk_182 0 29 (dk_at dksJ2_init_2 4 rfl rfl)
theorem dJ2_init_53 : decode cJ2_init 53 = .ok (.invokevirtual 32, 3) := dk_182 0 32 (dk_at dksJ2_init_2 7 rfl rfl)
theorem dJ2_init_56 : decode cJ2_init 56 = .ok (.invokespecial 36, 3) := dk_183 0 36 (dk_at dksJ2_init_2 10 rfl rfl)
theorem dJ2_init_59 : decode cJ2_init 59 = .ok (.athrow, 1) := dk_191 (dk_at dksJ2_init_2 13 rfl rfl)
theorem dJ2_init_60 : decode cJ2_init 60 = .ok (.return_, 1) := dk_177 (dk_at dksJ2_init_2 14 rfl rfl)
abbrev cJ2_add : ByteArray := prog_41_method_25_code
def yJ2_add : MethodName := ⟨RJ2, "add", "(Ljava/lang/Object;)Z"⟩
def dkwJ2_add_1 : List UInt8 := [172]
abbrev dktJ2_add_1 : List UInt8 := dkwJ2_add_1 ++ []
def dkwJ2_add_0 : List UInt8 := [42, 89, 180, 0, 63, 4, 96, 181, 0, 63, 42, 43, 42, 180, 0, 9, 42, 180, 0, 48, 182, 0, 131, 4]
abbrev dktJ2_add_0 : List UInt8 := dkwJ2_add_0 ++ dktJ2_add_1
theorem dksJ2_add_0 : cJ2_add.data.toList.drop 0 = dktJ2_add_0 := by decide +kernel
theorem dksJ2_add_1 : cJ2_add.data.toList.drop 24 = dktJ2_add_1 := dk_seg dksJ2_add_0 24 rfl rfl
theorem dJ2_add_0 : decode cJ2_add 0 = .ok (.aload_n 0, 1) := dk_42 (dk_at dksJ2_add_0 0 rfl rfl)
theorem dJ2_add_1 : decode cJ2_add 1 = .ok (.dup, 1) := dk_89 (dk_at dksJ2_add_0 1 rfl rfl)
theorem dJ2_add_2 : decode cJ2_add 2 = .ok (.getfield 63, 3) := dk_180 0 63 (dk_at dksJ2_add_0 2 rfl rfl)
theorem dJ2_add_5 : decode cJ2_add 5 = .ok (.iconst 1, 1) := dk_4 (dk_at dksJ2_add_0 5 rfl rfl)
theorem dJ2_add_6 : decode cJ2_add 6 = .ok (.iadd, 1) := dk_96 (dk_at dksJ2_add_0 6 rfl rfl)
theorem dJ2_add_7 : decode cJ2_add 7 = .ok (.putfield 63, 3) := dk_181 0 63 (dk_at dksJ2_add_0 7 rfl rfl)
theorem dJ2_add_10 : decode cJ2_add 10 = .ok (.aload_n 0, 1) := dk_42 (dk_at dksJ2_add_0 10 rfl rfl)
theorem dJ2_add_11 : decode cJ2_add 11 = .ok (.aload_n 1, 1) := dk_43 (dk_at dksJ2_add_0 11 rfl rfl)
theorem dJ2_add_12 : decode cJ2_add 12 = .ok (.aload_n 0, 1) := dk_42 (dk_at dksJ2_add_0 12 rfl rfl)
theorem dJ2_add_13 : decode cJ2_add 13 = .ok (.getfield 9, 3) := dk_180 0 9 (dk_at dksJ2_add_0 13 rfl rfl)
theorem dJ2_add_16 : decode cJ2_add 16 = .ok (.aload_n 0, 1) := dk_42 (dk_at dksJ2_add_0 16 rfl rfl)
theorem dJ2_add_17 : decode cJ2_add 17 = .ok (.getfield 48, 3) := dk_180 0 48 (dk_at dksJ2_add_0 17 rfl rfl)
theorem dJ2_add_20 : decode cJ2_add 20 = .ok (.invokevirtual 131, 3) := dk_182 0 131 (dk_at dksJ2_add_0 20 rfl rfl)
theorem dJ2_add_23 : decode cJ2_add 23 = .ok (.iconst 1, 1) := dk_4 (dk_at dksJ2_add_0 23 rfl rfl)
theorem dJ2_add_24 : decode cJ2_add 24 = .ok (.ireturn, 1) := dk_172 (dk_at dksJ2_add_1 0 rfl rfl)
abbrev cJ2_add_2 : ByteArray := prog_41_method_24_code
def yJ2_add_2 : MethodName := ⟨RJ2, "add", "(Ljava/lang/Object;[Ljava/lang/Object;I)V"⟩
def dkwJ2_add_2_0 : List UInt8 := [29, 44, 190, 160, 0, 8, 42, 182, 0, 129, 77, 44, 29, 43, 83, 42, 29, 4, 96, 181, 0, 48, 177]
abbrev dktJ2_add_2_0 : List UInt8 := dkwJ2_add_2_0 ++ []
theorem dksJ2_add_2_0 : cJ2_add_2.data.toList.drop 0 = dktJ2_add_2_0 := by decide +kernel
theorem dJ2_add_2_0 : decode cJ2_add_2 0 = .ok (.iload_n 3, 1) := dk_29 (dk_at dksJ2_add_2_0 0 rfl rfl)
theorem dJ2_add_2_1 : decode cJ2_add_2 1 = .ok (.aload_n 2, 1) := dk_44 (dk_at dksJ2_add_2_0 1 rfl rfl)
theorem dJ2_add_2_2 : decode cJ2_add_2 2 = .ok (.arraylength, 1) := dk_190 (dk_at dksJ2_add_2_0 2 rfl rfl)
theorem dJ2_add_2_3 : decode cJ2_add_2 3 = .ok (.if_icmp .ne 8, 3) := dk_160 0 8 (dk_at dksJ2_add_2_0 3 rfl rfl)
theorem dJ2_add_2_6 : decode cJ2_add_2 6 = .ok (.aload_n 0, 1) := dk_42 (dk_at dksJ2_add_2_0 6 rfl rfl)
theorem dJ2_add_2_7 : decode cJ2_add_2 7 = .ok (.invokevirtual 129, 3) := dk_182 0 129 (dk_at dksJ2_add_2_0 7 rfl rfl)
theorem dJ2_add_2_10 : decode cJ2_add_2 10 = .ok (.astore_n 2, 1) := dk_77 (dk_at dksJ2_add_2_0 10 rfl rfl)
theorem dJ2_add_2_11 : decode cJ2_add_2 11 = .ok (.aload_n 2, 1) := dk_44 (dk_at dksJ2_add_2_0 11 rfl rfl)
theorem dJ2_add_2_12 : decode cJ2_add_2 12 = .ok (.iload_n 3, 1) := dk_29 (dk_at dksJ2_add_2_0 12 rfl rfl)
theorem dJ2_add_2_13 : decode cJ2_add_2 13 = .ok (.aload_n 1, 1) := dk_43 (dk_at dksJ2_add_2_0 13 rfl rfl)
theorem dJ2_add_2_14 : decode cJ2_add_2 14 = .ok (.aastore, 1) := dk_83 (dk_at dksJ2_add_2_0 14 rfl rfl)
theorem dJ2_add_2_15 : decode cJ2_add_2 15 = .ok (.aload_n 0, 1) := dk_42 (dk_at dksJ2_add_2_0 15 rfl rfl)
theorem dJ2_add_2_16 : decode cJ2_add_2 16 = .ok (.iload_n 3, 1) := dk_29 (dk_at dksJ2_add_2_0 16 rfl rfl)
theorem dJ2_add_2_17 : decode cJ2_add_2 17 = .ok (.iconst 1, 1) := dk_4 (dk_at dksJ2_add_2_0 17 rfl rfl)
theorem dJ2_add_2_18 : decode cJ2_add_2 18 = .ok (.iadd, 1) := dk_96 (dk_at dksJ2_add_2_0 18 rfl rfl)
theorem dJ2_add_2_19 : decode cJ2_add_2 19 = .ok (.putfield 48, 3) := dk_181 0 48 (dk_at dksJ2_add_2_0 19 rfl rfl)
theorem dJ2_add_2_22 : decode cJ2_add_2 22 = .ok (.return_, 1) := dk_177 (dk_at dksJ2_add_2_0 22 rfl rfl)
abbrev cJ2_grow : ByteArray := prog_41_method_7_code
def yJ2_grow : MethodName := ⟨RJ2, "grow", "()[Ljava/lang/Object;"⟩
def dkwJ2_grow_0 : List UInt8 := [42, 42, 180, 0, 48, 4, 96, 182, 0, 69, 176]
abbrev dktJ2_grow_0 : List UInt8 := dkwJ2_grow_0 ++ []
theorem dksJ2_grow_0 : cJ2_grow.data.toList.drop 0 = dktJ2_grow_0 := by decide +kernel
theorem dJ2_grow_0 : decode cJ2_grow 0 = .ok (.aload_n 0, 1) := dk_42 (dk_at dksJ2_grow_0 0 rfl rfl)
theorem dJ2_grow_1 : decode cJ2_grow 1 = .ok (.aload_n 0, 1) := dk_42 (dk_at dksJ2_grow_0 1 rfl rfl)
theorem dJ2_grow_2 : decode cJ2_grow 2 = .ok (.getfield 48, 3) := dk_180 0 48 (dk_at dksJ2_grow_0 2 rfl rfl)
theorem dJ2_grow_5 : decode cJ2_grow 5 = .ok (.iconst 1, 1) := dk_4 (dk_at dksJ2_grow_0 5 rfl rfl)
theorem dJ2_grow_6 : decode cJ2_grow 6 = .ok (.iadd, 1) := dk_96 (dk_at dksJ2_grow_0 6 rfl rfl)
theorem dJ2_grow_7 : decode cJ2_grow 7 = .ok (.invokevirtual 69, 3) := dk_182 0 69 (dk_at dksJ2_grow_0 7 rfl rfl)
theorem dJ2_grow_10 : decode cJ2_grow 10 = .ok (.areturn, 1) := dk_176 (dk_at dksJ2_grow_0 10 rfl rfl)
abbrev cJ2_grow_2 : ByteArray := prog_41_method_6_code
def yJ2_grow_2 : MethodName := ⟨RJ2, "grow", "(I)[Ljava/lang/Object;"⟩
def dkwJ2_grow_2_2 : List UInt8 := [27, 184, 0, 79, 189, 0, 7, 90, 181, 0, 9, 176]
abbrev dktJ2_grow_2_2 : List UInt8 := dkwJ2_grow_2_2 ++ []
def dkwJ2_grow_2_1 : List UInt8 := [28, 4, 122, 184, 0, 73, 62, 42, 42, 180, 0, 9, 29, 184, 0, 66, 90, 181, 0, 9, 176, 42, 16, 10]
abbrev dktJ2_grow_2_1 : List UInt8 := dkwJ2_grow_2_1 ++ dktJ2_grow_2_2
def dkwJ2_grow_2_0 : List UInt8 := [42, 180, 0, 9, 190, 61, 28, 157, 0, 13, 42, 180, 0, 9, 178, 0, 39, 165, 0, 28, 28, 27, 28, 100]
abbrev dktJ2_grow_2_0 : List UInt8 := dkwJ2_grow_2_0 ++ dktJ2_grow_2_1
theorem dksJ2_grow_2_0 : cJ2_grow_2.data.toList.drop 0 = dktJ2_grow_2_0 := by decide +kernel
theorem dksJ2_grow_2_1 : cJ2_grow_2.data.toList.drop 24 = dktJ2_grow_2_1 := dk_seg dksJ2_grow_2_0 24 rfl rfl
theorem dksJ2_grow_2_2 : cJ2_grow_2.data.toList.drop 48 = dktJ2_grow_2_2 := dk_seg dksJ2_grow_2_1 24 rfl rfl
theorem dJ2_grow_2_0 : decode cJ2_grow_2 0 = .ok (.aload_n 0, 1) := dk_42 (dk_at dksJ2_grow_2_0 0 rfl rfl)
theorem dJ2_grow_2_1 : decode cJ2_grow_2 1 = .ok (.getfield 9, 3) := dk_180 0 9 (dk_at dksJ2_grow_2_0 1 rfl rfl)
theorem dJ2_grow_2_4 : decode cJ2_grow_2 4 = .ok (.arraylength, 1) := dk_190 (dk_at dksJ2_grow_2_0 4 rfl rfl)
theorem dJ2_grow_2_5 : decode cJ2_grow_2 5 = .ok (.istore_n 2, 1) := dk_61 (dk_at dksJ2_grow_2_0 5 rfl rfl)
theorem dJ2_grow_2_6 : decode cJ2_grow_2 6 = .ok (.iload_n 2, 1) := dk_28 (dk_at dksJ2_grow_2_0 6 rfl rfl)
theorem dJ2_grow_2_7 : decode cJ2_grow_2 7 = .ok (.ifCond .gt 13, 3) := dk_157 0 13 (dk_at dksJ2_grow_2_0 7 rfl rfl)
theorem dJ2_grow_2_10 : decode cJ2_grow_2 10 = .ok (.aload_n 0, 1) := dk_42 (dk_at dksJ2_grow_2_0 10 rfl rfl)
theorem dJ2_grow_2_11 : decode cJ2_grow_2 11 = .ok (.getfield 9, 3) := dk_180 0 9 (dk_at dksJ2_grow_2_0 11 rfl rfl)
theorem dJ2_grow_2_14 : decode cJ2_grow_2 14 = .ok (.getstatic 39, 3) := dk_178 0 39 (dk_at dksJ2_grow_2_0 14 rfl rfl)
theorem dJ2_grow_2_17 : decode cJ2_grow_2 17 = .ok (.if_acmp .eq 28, 3) := dk_165 0 28 (dk_at dksJ2_grow_2_0 17 rfl rfl)
theorem dJ2_grow_2_20 : decode cJ2_grow_2 20 = .ok (.iload_n 2, 1) := dk_28 (dk_at dksJ2_grow_2_0 20 rfl rfl)
theorem dJ2_grow_2_21 : decode cJ2_grow_2 21 = .ok (.iload_n 1, 1) := dk_27 (dk_at dksJ2_grow_2_0 21 rfl rfl)
theorem dJ2_grow_2_22 : decode cJ2_grow_2 22 = .ok (.iload_n 2, 1) := dk_28 (dk_at dksJ2_grow_2_0 22 rfl rfl)
theorem dJ2_grow_2_23 : decode cJ2_grow_2 23 = .ok (.isub, 1) := dk_100 (dk_at dksJ2_grow_2_0 23 rfl rfl)
theorem dJ2_grow_2_24 : decode cJ2_grow_2 24 = .ok (.iload_n 2, 1) := dk_28 (dk_at dksJ2_grow_2_1 0 rfl rfl)
theorem dJ2_grow_2_25 : decode cJ2_grow_2 25 = .ok (.iconst 1, 1) := dk_4 (dk_at dksJ2_grow_2_1 1 rfl rfl)
theorem dJ2_grow_2_26 : decode cJ2_grow_2 26 = .ok (.ishr, 1) := dk_122 (dk_at dksJ2_grow_2_1 2 rfl rfl)
theorem dJ2_grow_2_27 : decode cJ2_grow_2 27 = .ok (.invokestatic 73, 3) := dk_184 0 73 (dk_at dksJ2_grow_2_1 3 rfl rfl)
theorem dJ2_grow_2_30 : decode cJ2_grow_2 30 = .ok (.istore_n 3, 1) := dk_62 (dk_at dksJ2_grow_2_1 6 rfl rfl)
theorem dJ2_grow_2_31 : decode cJ2_grow_2 31 = .ok (.aload_n 0, 1) := dk_42 (dk_at dksJ2_grow_2_1 7 rfl rfl)
theorem dJ2_grow_2_32 : decode cJ2_grow_2 32 = .ok (.aload_n 0, 1) := dk_42 (dk_at dksJ2_grow_2_1 8 rfl rfl)
theorem dJ2_grow_2_33 : decode cJ2_grow_2 33 = .ok (.getfield 9, 3) := dk_180 0 9 (dk_at dksJ2_grow_2_1 9 rfl rfl)
theorem dJ2_grow_2_36 : decode cJ2_grow_2 36 = .ok (.iload_n 3, 1) := dk_29 (dk_at dksJ2_grow_2_1 12 rfl rfl)
theorem dJ2_grow_2_37 : decode cJ2_grow_2 37 = .ok (.invokestatic 66, 3) := dk_184 0 66 (dk_at dksJ2_grow_2_1 13 rfl rfl)
theorem dJ2_grow_2_40 : decode cJ2_grow_2 40 = .ok (.dup_x1, 1) := dk_90 (dk_at dksJ2_grow_2_1 16 rfl rfl)
theorem dJ2_grow_2_41 : decode cJ2_grow_2 41 = .ok (.putfield 9, 3) := dk_181 0 9 (dk_at dksJ2_grow_2_1 17 rfl rfl)
theorem dJ2_grow_2_44 : decode cJ2_grow_2 44 = .ok (.areturn, 1) := dk_176 (dk_at dksJ2_grow_2_1 20 rfl rfl)
theorem dJ2_grow_2_45 : decode cJ2_grow_2 45 = .ok (.aload_n 0, 1) := dk_42 (dk_at dksJ2_grow_2_1 21 rfl rfl)
theorem dJ2_grow_2_46 : decode cJ2_grow_2 46 = .ok (.bipush 10, 2) := dk_16 10 (dk_at dksJ2_grow_2_1 22 rfl rfl)
theorem dJ2_grow_2_48 : decode cJ2_grow_2 48 = .ok (.iload_n 1, 1) := dk_27 (dk_at dksJ2_grow_2_2 0 rfl rfl)
theorem dJ2_grow_2_49 : decode cJ2_grow_2 49 = .ok (.invokestatic 79, 3) := dk_184 0 79 (dk_at dksJ2_grow_2_2 1 rfl rfl)
theorem dJ2_grow_2_52 : decode cJ2_grow_2 52 = .ok (.anewarray 7, 3) := dk_189 0 7 (dk_at dksJ2_grow_2_2 4 rfl rfl)
theorem dJ2_grow_2_55 : decode cJ2_grow_2 55 = .ok (.dup_x1, 1) := dk_90 (dk_at dksJ2_grow_2_2 7 rfl rfl)
theorem dJ2_grow_2_56 : decode cJ2_grow_2 56 = .ok (.putfield 9, 3) := dk_181 0 9 (dk_at dksJ2_grow_2_2 8 rfl rfl)
theorem dJ2_grow_2_59 : decode cJ2_grow_2 59 = .ok (.areturn, 1) := dk_176 (dk_at dksJ2_grow_2_2 11 rfl rfl)
abbrev cJ2_get : ByteArray := prog_41_method_20_code
def yJ2_get : MethodName := ⟨RJ2, "get", "(I)Ljava/lang/Object;"⟩
def dkwJ2_get_0 : List UInt8 := [27, 42, 180, 0, 48, 184, 0, 118, 87, 42, 27, 182, 0, 123, 176]
abbrev dktJ2_get_0 : List UInt8 := dkwJ2_get_0 ++ []
theorem dksJ2_get_0 : cJ2_get.data.toList.drop 0 = dktJ2_get_0 := by decide +kernel
theorem dJ2_get_0 : decode cJ2_get 0 = .ok (.iload_n 1, 1) := dk_27 (dk_at dksJ2_get_0 0 rfl rfl)
theorem dJ2_get_1 : decode cJ2_get 1 = .ok (.aload_n 0, 1) := dk_42 (dk_at dksJ2_get_0 1 rfl rfl)
theorem dJ2_get_2 : decode cJ2_get 2 = .ok (.getfield 48, 3) := dk_180 0 48 (dk_at dksJ2_get_0 2 rfl rfl)
theorem dJ2_get_5 : decode cJ2_get 5 = .ok (.invokestatic 118, 3) := dk_184 0 118 (dk_at dksJ2_get_0 5 rfl rfl)
theorem dJ2_get_8 : decode cJ2_get 8 = .ok (.pop, 1) := dk_87 (dk_at dksJ2_get_0 8 rfl rfl)
theorem dJ2_get_9 : decode cJ2_get 9 = .ok (.aload_n 0, 1) := dk_42 (dk_at dksJ2_get_0 9 rfl rfl)
theorem dJ2_get_10 : decode cJ2_get 10 = .ok (.iload_n 1, 1) := dk_27 (dk_at dksJ2_get_0 10 rfl rfl)
theorem dJ2_get_11 : decode cJ2_get 11 = .ok (.invokevirtual 123, 3) := dk_182 0 123 (dk_at dksJ2_get_0 11 rfl rfl)
theorem dJ2_get_14 : decode cJ2_get 14 = .ok (.areturn, 1) := dk_176 (dk_at dksJ2_get_0 14 rfl rfl)
abbrev cJ2_elementData : ByteArray := prog_41_method_18_code
def yJ2_elementData : MethodName := ⟨RJ2, "elementData", "(I)Ljava/lang/Object;"⟩
def dkwJ2_elementData_0 : List UInt8 := [42, 180, 0, 9, 27, 50, 176]
abbrev dktJ2_elementData_0 : List UInt8 := dkwJ2_elementData_0 ++ []
theorem dksJ2_elementData_0 : cJ2_elementData.data.toList.drop 0 = dktJ2_elementData_0 := by decide +kernel
theorem dJ2_elementData_0 : decode cJ2_elementData 0 = .ok (.aload_n 0, 1) := dk_42 (dk_at dksJ2_elementData_0 0 rfl rfl)
theorem dJ2_elementData_1 : decode cJ2_elementData 1 = .ok (.getfield 9, 3) := dk_180 0 9 (dk_at dksJ2_elementData_0 1 rfl rfl)
theorem dJ2_elementData_4 : decode cJ2_elementData 4 = .ok (.iload_n 1, 1) := dk_27 (dk_at dksJ2_elementData_0 4 rfl rfl)
theorem dJ2_elementData_5 : decode cJ2_elementData 5 = .ok (.aaload, 1) := dk_50 (dk_at dksJ2_elementData_0 5 rfl rfl)
theorem dJ2_elementData_6 : decode cJ2_elementData 6 = .ok (.areturn, 1) := dk_176 (dk_at dksJ2_elementData_0 6 rfl rfl)
abbrev cJ2_set : ByteArray := prog_41_method_23_code
def yJ2_set : MethodName := ⟨RJ2, "set", "(ILjava/lang/Object;)Ljava/lang/Object;"⟩
def dkwJ2_set_0 : List UInt8 := [27, 42, 180, 0, 48, 184, 0, 118, 87, 42, 27, 182, 0, 123, 78, 42, 180, 0, 9, 27, 44, 83, 45, 176]
abbrev dktJ2_set_0 : List UInt8 := dkwJ2_set_0 ++ []
theorem dksJ2_set_0 : cJ2_set.data.toList.drop 0 = dktJ2_set_0 := by decide +kernel
theorem dJ2_set_0 : decode cJ2_set 0 = .ok (.iload_n 1, 1) := dk_27 (dk_at dksJ2_set_0 0 rfl rfl)
theorem dJ2_set_1 : decode cJ2_set 1 = .ok (.aload_n 0, 1) := dk_42 (dk_at dksJ2_set_0 1 rfl rfl)
theorem dJ2_set_2 : decode cJ2_set 2 = .ok (.getfield 48, 3) := dk_180 0 48 (dk_at dksJ2_set_0 2 rfl rfl)
theorem dJ2_set_5 : decode cJ2_set 5 = .ok (.invokestatic 118, 3) := dk_184 0 118 (dk_at dksJ2_set_0 5 rfl rfl)
theorem dJ2_set_8 : decode cJ2_set 8 = .ok (.pop, 1) := dk_87 (dk_at dksJ2_set_0 8 rfl rfl)
theorem dJ2_set_9 : decode cJ2_set 9 = .ok (.aload_n 0, 1) := dk_42 (dk_at dksJ2_set_0 9 rfl rfl)
theorem dJ2_set_10 : decode cJ2_set 10 = .ok (.iload_n 1, 1) := dk_27 (dk_at dksJ2_set_0 10 rfl rfl)
theorem dJ2_set_11 : decode cJ2_set 11 = .ok (.invokevirtual 123, 3) := dk_182 0 123 (dk_at dksJ2_set_0 11 rfl rfl)
theorem dJ2_set_14 : decode cJ2_set 14 = .ok (.astore_n 3, 1) := dk_78 (dk_at dksJ2_set_0 14 rfl rfl)
theorem dJ2_set_15 : decode cJ2_set 15 = .ok (.aload_n 0, 1) := dk_42 (dk_at dksJ2_set_0 15 rfl rfl)
theorem dJ2_set_16 : decode cJ2_set 16 = .ok (.getfield 9, 3) := dk_180 0 9 (dk_at dksJ2_set_0 16 rfl rfl)
theorem dJ2_set_19 : decode cJ2_set 19 = .ok (.iload_n 1, 1) := dk_27 (dk_at dksJ2_set_0 19 rfl rfl)
theorem dJ2_set_20 : decode cJ2_set 20 = .ok (.aload_n 2, 1) := dk_44 (dk_at dksJ2_set_0 20 rfl rfl)
theorem dJ2_set_21 : decode cJ2_set 21 = .ok (.aastore, 1) := dk_83 (dk_at dksJ2_set_0 21 rfl rfl)
theorem dJ2_set_22 : decode cJ2_set 22 = .ok (.aload_n 3, 1) := dk_45 (dk_at dksJ2_set_0 22 rfl rfl)
theorem dJ2_set_23 : decode cJ2_set 23 = .ok (.areturn, 1) := dk_176 (dk_at dksJ2_set_0 23 rfl rfl)
abbrev cJ2_iterator : ByteArray := prog_41_method_55_code
def yJ2_iterator : MethodName := ⟨RJ2, "iterator", "()Ljava/util/Iterator;"⟩
def dkwJ2_iterator_0 : List UInt8 := [187, 1, 11, 89, 42, 183, 1, 13, 176]
abbrev dktJ2_iterator_0 : List UInt8 := dkwJ2_iterator_0 ++ []
theorem dksJ2_iterator_0 : cJ2_iterator.data.toList.drop 0 = dktJ2_iterator_0 := by decide +kernel
theorem dJ2_iterator_0 : decode cJ2_iterator 0 = .ok (.new 267, 3) := dk_187 1 11 (dk_at dksJ2_iterator_0 0 rfl rfl)
theorem dJ2_iterator_3 : decode cJ2_iterator 3 = .ok (.dup, 1) := dk_89 (dk_at dksJ2_iterator_0 3 rfl rfl)
theorem dJ2_iterator_4 : decode cJ2_iterator 4 = .ok (.aload_n 0, 1) := dk_42 (dk_at dksJ2_iterator_0 4 rfl rfl)
theorem dJ2_iterator_5 : decode cJ2_iterator 5 = .ok (.invokespecial 269, 3) := dk_183 1 13 (dk_at dksJ2_iterator_0 5 rfl rfl)
theorem dJ2_iterator_8 : decode cJ2_iterator 8 = .ok (.areturn, 1) := dk_176 (dk_at dksJ2_iterator_0 8 rfl rfl)
abbrev cJ2_size : ByteArray := prog_41_method_8_code
def yJ2_size : MethodName := ⟨RJ2, "size", "()I"⟩
theorem dJ2_size_0 : decode cJ2_size 0 = .ok (.aload_n 0, 1) := by decide +kernel
theorem dJ2_size_1 : decode cJ2_size 1 = .ok (.getfield 48, 3) := by decide +kernel
theorem dJ2_size_4 : decode cJ2_size 4 = .ok (.ireturn, 1) := by decide +kernel
abbrev cJ2_listIterator : ByteArray := prog_41_method_53_code
def yJ2_listIterator : MethodName := ⟨RJ2, "listIterator", "(I)Ljava/util/ListIterator;"⟩
def dkwJ2_listIterator_0 : List UInt8 := [42, 27, 182, 0, 135, 187, 1, 6, 89, 42, 27, 183, 1, 8, 176]
abbrev dktJ2_listIterator_0 : List UInt8 := dkwJ2_listIterator_0 ++ []
theorem dksJ2_listIterator_0 : cJ2_listIterator.data.toList.drop 0 = dktJ2_listIterator_0 := by decide +kernel
theorem dJ2_listIterator_0 : decode cJ2_listIterator 0 = .ok (.aload_n 0, 1) := dk_42 (dk_at dksJ2_listIterator_0 0 rfl rfl)
theorem dJ2_listIterator_1 : decode cJ2_listIterator 1 = .ok (.iload_n 1, 1) := dk_27 (dk_at dksJ2_listIterator_0 1 rfl rfl)
theorem dJ2_listIterator_2 : decode cJ2_listIterator 2 = .ok (.invokevirtual 135, 3) := dk_182 0 135 (dk_at dksJ2_listIterator_0 2 rfl rfl)
theorem dJ2_listIterator_5 : decode cJ2_listIterator 5 = .ok (.new 262, 3) := dk_187 1 6 (dk_at dksJ2_listIterator_0 5 rfl rfl)
theorem dJ2_listIterator_8 : decode cJ2_listIterator 8 = .ok (.dup, 1) := dk_89 (dk_at dksJ2_listIterator_0 8 rfl rfl)
theorem dJ2_listIterator_9 : decode cJ2_listIterator 9 = .ok (.aload_n 0, 1) := dk_42 (dk_at dksJ2_listIterator_0 9 rfl rfl)
theorem dJ2_listIterator_10 : decode cJ2_listIterator 10 = .ok (.iload_n 1, 1) := dk_27 (dk_at dksJ2_listIterator_0 10 rfl rfl)
theorem dJ2_listIterator_11 : decode cJ2_listIterator 11 = .ok (.invokespecial 264, 3) := dk_183 1 8 (dk_at dksJ2_listIterator_0 11 rfl rfl)
theorem dJ2_listIterator_14 : decode cJ2_listIterator 14 = .ok (.areturn, 1) := dk_176 (dk_at dksJ2_listIterator_0 14 rfl rfl)
abbrev cJ2_rangeCheckForAdd : ByteArray := prog_41_method_45_code
def yJ2_rangeCheckForAdd : MethodName := ⟨RJ2, "rangeCheckForAdd", "(I)V"⟩
def dkwJ2_rangeCheckForAdd_1 : List UInt8 := [191, 177]
abbrev dktJ2_rangeCheckForAdd_1 : List UInt8 := dkwJ2_rangeCheckForAdd_1 ++ []
def dkwJ2_rangeCheckForAdd_0 : List UInt8 := [27, 42, 180, 0, 48, 163, 0, 7, 27, 156, 0, 16, 187, 0, 187, 89, 42, 27, 182, 0, 198, 183, 0, 193]
abbrev dktJ2_rangeCheckForAdd_0 : List UInt8 := dkwJ2_rangeCheckForAdd_0 ++ dktJ2_rangeCheckForAdd_1
theorem dksJ2_rangeCheckForAdd_0 : cJ2_rangeCheckForAdd.data.toList.drop 0 = dktJ2_rangeCheckForAdd_0 := by decide +kernel
theorem dksJ2_rangeCheckForAdd_1 : cJ2_rangeCheckForAdd.data.toList.drop 24 = dktJ2_rangeCheckForAdd_1 := dk_seg dksJ2_rangeCheckForAdd_0 24 rfl rfl
theorem dJ2_rangeCheckForAdd_0 : decode cJ2_rangeCheckForAdd 0 = .ok (.iload_n 1, 1) := dk_27 (dk_at dksJ2_rangeCheckForAdd_0 0 rfl rfl)
theorem dJ2_rangeCheckForAdd_1 : decode cJ2_rangeCheckForAdd 1 = .ok (.aload_n 0, 1) := dk_42 (dk_at dksJ2_rangeCheckForAdd_0 1 rfl rfl)
theorem dJ2_rangeCheckForAdd_2 : decode cJ2_rangeCheckForAdd 2 = .ok (.getfield 48, 3) := dk_180 0 48 (dk_at dksJ2_rangeCheckForAdd_0 2 rfl rfl)
theorem dJ2_rangeCheckForAdd_5 : decode cJ2_rangeCheckForAdd 5 = .ok (.if_icmp .gt 7, 3) := dk_163 0 7 (dk_at dksJ2_rangeCheckForAdd_0 5 rfl rfl)
theorem dJ2_rangeCheckForAdd_8 : decode cJ2_rangeCheckForAdd 8 = .ok (.iload_n 1, 1) := dk_27 (dk_at dksJ2_rangeCheckForAdd_0 8 rfl rfl)
theorem dJ2_rangeCheckForAdd_9 : decode cJ2_rangeCheckForAdd 9 = .ok (.ifCond .ge 16, 3) := dk_156 0 16 (dk_at dksJ2_rangeCheckForAdd_0 9 rfl rfl)
theorem dJ2_rangeCheckForAdd_12 : decode cJ2_rangeCheckForAdd 12 = .ok (.new 187, 3) := dk_187 0 187 (dk_at dksJ2_rangeCheckForAdd_0 12 rfl rfl)
theorem dJ2_rangeCheckForAdd_15 : decode cJ2_rangeCheckForAdd 15 = .ok (.dup, 1) := dk_89 (dk_at dksJ2_rangeCheckForAdd_0 15 rfl rfl)
theorem dJ2_rangeCheckForAdd_16 : decode cJ2_rangeCheckForAdd 16 = .ok (.aload_n 0, 1) := dk_42 (dk_at dksJ2_rangeCheckForAdd_0 16 rfl rfl)
theorem dJ2_rangeCheckForAdd_17 : decode cJ2_rangeCheckForAdd 17 = .ok (.iload_n 1, 1) := dk_27 (dk_at dksJ2_rangeCheckForAdd_0 17 rfl rfl)
theorem dJ2_rangeCheckForAdd_18 : decode cJ2_rangeCheckForAdd 18 = .ok (.invokevirtual 198, 3) := dk_182 0 198 (dk_at dksJ2_rangeCheckForAdd_0 18 rfl rfl)
theorem dJ2_rangeCheckForAdd_21 : decode cJ2_rangeCheckForAdd 21 = .ok (.invokespecial 193, 3) := dk_183 0 193 (dk_at dksJ2_rangeCheckForAdd_0 21 rfl rfl)
theorem dJ2_rangeCheckForAdd_24 : decode cJ2_rangeCheckForAdd 24 = .ok (.athrow, 1) := dk_191 (dk_at dksJ2_rangeCheckForAdd_1 0 rfl rfl)
theorem dJ2_rangeCheckForAdd_25 : decode cJ2_rangeCheckForAdd 25 = .ok (.return_, 1) := dk_177 (dk_at dksJ2_rangeCheckForAdd_1 1 rfl rfl)
theorem q68 : (Jvm.Cond.initialized "java/util/ArrayList") ∈ lw_all := lw_g (lw_at lw_m1 5 rfl) rfl
theorem q121 : (Jvm.Cond.instantiable "java/util/ArrayList" (3 : Nat)) ∈ lw_all := lw_g (lw_at lw_m1 58 rfl) rfl
theorem q123 : (Jvm.Cond.instanceMethod ({ cls := "java/util/ArrayList", name := "<init>", desc := "(I)V" } : Jvm.MethodName)) ∈ lw_all := lw_g (lw_at lw_m1 60 rfl) rfl
theorem q124 : (Jvm.Cond.code ({ cls := "java/util/ArrayList", name := "<init>", desc := "(I)V" } : Jvm.MethodName) prog_41_method_1_code (2 : Nat) (Option.none : Option Jvm.ClassFile.FieldType)) ∈ lw_all := lw_g (lw_at lw_m1 61 rfl) rfl
theorem q125 : (Jvm.Cond.methodLink "java/util/ArrayList" (1 : Nat) ({ cls := "java/util/AbstractList", name := "<init>", desc := "()V" } : Jvm.MethodName)) ∈ lw_all := lw_g (lw_at lw_m1 62 rfl) rfl
theorem q132 : (Jvm.Cond.classLink "java/util/ArrayList" (7 : Nat) "java/lang/Object") ∈ lw_all := lw_g (lw_at lw_m1 69 rfl) rfl
theorem q134 : (Jvm.Cond.fieldLink "java/util/ArrayList" (15 : Nat) "java/util/ArrayList" "EMPTY_ELEMENTDATA" "[Ljava/lang/Object;") ∈ lw_all := lw_g (lw_at lw_m1 71 rfl) rfl
theorem q135 : (Jvm.Cond.laysStatic "java/util/ArrayList" "EMPTY_ELEMENTDATA" "[Ljava/lang/Object;") ∈ lw_tbl := lw_at lw_m1 72 rfl
theorem q136 : (Jvm.Cond.fieldLink "java/util/ArrayList" (9 : Nat) "java/util/ArrayList" "elementData" "[Ljava/lang/Object;") ∈ lw_all := lw_g (lw_at lw_m1 73 rfl) rfl
theorem q139 : (Jvm.Cond.fieldLink "java/util/ArrayList" (48 : Nat) "java/util/ArrayList" "size" "I") ∈ lw_all := lw_g (lw_at lw_m1 76 rfl) rfl
theorem q144 : (Jvm.Cond.sameField "java/util/ArrayList" "java/util/AbstractList" "modCount" "I") ∈ lw_all := lw_g (lw_at lw_m1 81 rfl) rfl
theorem q147 : (Jvm.Cond.fieldLink "java/util/ArrayList" (63 : Nat) "java/util/ArrayList" "modCount" "I") ∈ lw_all := lw_g (lw_at lw_m1 84 rfl) rfl
theorem q148 : (Jvm.Cond.lays "java/util/ArrayList" "java/util/ArrayList" "elementData" "[Ljava/lang/Object;") ∈ lw_all := lw_g (lw_at lw_m1 85 rfl) rfl
theorem q149 : (Jvm.Cond.soleField "java/util/ArrayList" "elementData") ∈ lw_all := lw_g (lw_at lw_m1 86 rfl) rfl
theorem q150 : (Jvm.Cond.lays "java/util/ArrayList" "java/util/ArrayList" "size" "I") ∈ lw_all := lw_g (lw_at lw_m1 87 rfl) rfl
theorem q151 : (Jvm.Cond.soleField "java/util/ArrayList" "size") ∈ lw_all := lw_g (lw_at lw_m1 88 rfl) rfl
theorem q152 : (Jvm.Cond.lays "java/util/ArrayList" "java/util/AbstractList" "modCount" "I") ∈ lw_all := lw_g (lw_at lw_m1 89 rfl) rfl
theorem q154 : (Jvm.Cond.superclass "java/util/ArrayList" "java/util/AbstractList") ∈ lw_all := lw_g (lw_at lw_m1 91 rfl) rfl
theorem q227 : (Jvm.Cond.instanceMethod ({ cls := "java/util/ArrayList", name := "add", desc := "(Ljava/lang/Object;)Z" } : Jvm.MethodName)) ∈ lw_all := lw_g (lw_at lw_m1 164 rfl) rfl
theorem q228 : (Jvm.Cond.selects "java/util/ArrayList" ({ cls := "java/util/ArrayList", name := "add", desc := "(Ljava/lang/Object;)Z" } : Jvm.MethodName) ({ cls := "java/util/ArrayList", name := "add", desc := "(Ljava/lang/Object;)Z" } : Jvm.MethodName)) ∈ lw_all := lw_g (lw_at lw_m1 165 rfl) rfl
theorem q229 : (Jvm.Cond.code ({ cls := "java/util/ArrayList", name := "add", desc := "(Ljava/lang/Object;)Z" } : Jvm.MethodName) prog_41_method_25_code (2 : Nat) (Option.some Jvm.ClassFile.FieldType.boolean)) ∈ lw_all := lw_g (lw_at lw_m1 166 rfl) rfl
theorem q230 : (Jvm.Cond.methodLink "java/util/ArrayList" (131 : Nat) ({ cls := "java/util/ArrayList", name := "add", desc := "(Ljava/lang/Object;[Ljava/lang/Object;I)V" } : Jvm.MethodName)) ∈ lw_all := lw_g (lw_at lw_m1 167 rfl) rfl
theorem q231 : (Jvm.Cond.privateMethod ({ cls := "java/util/ArrayList", name := "add", desc := "(Ljava/lang/Object;[Ljava/lang/Object;I)V" } : Jvm.MethodName)) ∈ lw_tbl := lw_at lw_m1 168 rfl
theorem q232 : (Jvm.Cond.instanceMethod ({ cls := "java/util/ArrayList", name := "add", desc := "(Ljava/lang/Object;[Ljava/lang/Object;I)V" } : Jvm.MethodName)) ∈ lw_all := lw_g (lw_at lw_m1 169 rfl) rfl
theorem q233 : (Jvm.Cond.code ({ cls := "java/util/ArrayList", name := "add", desc := "(Ljava/lang/Object;[Ljava/lang/Object;I)V" } : Jvm.MethodName) prog_41_method_24_code (4 : Nat) (Option.none : Option Jvm.ClassFile.FieldType)) ∈ lw_all := lw_g (lw_at lw_m1 170 rfl) rfl
theorem q234 : (Jvm.Cond.methodLink "java/util/ArrayList" (129 : Nat) ({ cls := "java/util/ArrayList", name := "grow", desc := "()[Ljava/lang/Object;" } : Jvm.MethodName)) ∈ lw_all := lw_g (lw_at lw_m1 171 rfl) rfl
theorem q235 : (Jvm.Cond.privateMethod ({ cls := "java/util/ArrayList", name := "grow", desc := "()[Ljava/lang/Object;" } : Jvm.MethodName)) ∈ lw_tbl := lw_at lw_m1 172 rfl
theorem q236 : (Jvm.Cond.instanceMethod ({ cls := "java/util/ArrayList", name := "grow", desc := "()[Ljava/lang/Object;" } : Jvm.MethodName)) ∈ lw_all := lw_g (lw_at lw_m1 173 rfl) rfl
theorem q237 : (Jvm.Cond.code ({ cls := "java/util/ArrayList", name := "grow", desc := "()[Ljava/lang/Object;" } : Jvm.MethodName) prog_41_method_7_code (1 : Nat) (Option.some (Jvm.ClassFile.FieldType.array (Jvm.ClassFile.FieldType.object "java/lang/Object")))) ∈ lw_all := lw_g (lw_at lw_m1 174 rfl) rfl
theorem q238 : (Jvm.Cond.methodLink "java/util/ArrayList" (69 : Nat) ({ cls := "java/util/ArrayList", name := "grow", desc := "(I)[Ljava/lang/Object;" } : Jvm.MethodName)) ∈ lw_all := lw_g (lw_at lw_m1 175 rfl) rfl
theorem q239 : (Jvm.Cond.privateMethod ({ cls := "java/util/ArrayList", name := "grow", desc := "(I)[Ljava/lang/Object;" } : Jvm.MethodName)) ∈ lw_tbl := lw_at lw_m1 176 rfl
theorem q240 : (Jvm.Cond.instanceMethod ({ cls := "java/util/ArrayList", name := "grow", desc := "(I)[Ljava/lang/Object;" } : Jvm.MethodName)) ∈ lw_all := lw_g (lw_at lw_m1 177 rfl) rfl
theorem q241 : (Jvm.Cond.code ({ cls := "java/util/ArrayList", name := "grow", desc := "(I)[Ljava/lang/Object;" } : Jvm.MethodName) prog_41_method_6_code (4 : Nat) (Option.some (Jvm.ClassFile.FieldType.array (Jvm.ClassFile.FieldType.object "java/lang/Object")))) ∈ lw_all := lw_g (lw_at lw_m1 178 rfl) rfl
theorem q242 : (Jvm.Cond.fieldLink "java/util/ArrayList" (39 : Nat) "java/util/ArrayList" "DEFAULTCAPACITY_EMPTY_ELEMENTDATA" "[Ljava/lang/Object;") ∈ lw_all := lw_g (lw_at lw_m1 179 rfl) rfl
theorem q243 : (Jvm.Cond.laysStatic "java/util/ArrayList" "DEFAULTCAPACITY_EMPTY_ELEMENTDATA" "[Ljava/lang/Object;") ∈ lw_tbl := lw_at lw_m1 180 rfl
theorem q244 : (Jvm.Cond.methodLink "java/util/ArrayList" (73 : Nat) ({ cls := "jdk/internal/util/ArraysSupport", name := "newLength", desc := "(III)I" } : Jvm.MethodName)) ∈ lw_all := lw_g (lw_at lw_m1 181 rfl) rfl
theorem q254 : (Jvm.Cond.methodLink "java/util/ArrayList" (66 : Nat) ({ cls := "java/util/Arrays", name := "copyOf", desc := "([Ljava/lang/Object;I)[Ljava/lang/Object;" } : Jvm.MethodName)) ∈ lw_all := lw_g (lw_at lw_m1 191 rfl) rfl
theorem q275 : (Jvm.Cond.selects "java/util/ArrayList" ({ cls := "java/lang/Object", name := "getClass", desc := "()Ljava/lang/Class;" } : Jvm.MethodName) ({ cls := "java/lang/Object", name := "getClass", desc := "()Ljava/lang/Class;" } : Jvm.MethodName)) ∈ lw_all := lw_g (lw_at lw_m1 212 rfl) rfl
theorem q295 : (Jvm.Cond.methodLink "java/util/ArrayList" (79 : Nat) ({ cls := "java/lang/Math", name := "max", desc := "(II)I" } : Jvm.MethodName)) ∈ lw_all := lw_g (lw_at lw_m1 232 rfl) rfl
theorem q441 : (Jvm.Cond.instanceMethod ({ cls := "java/util/ArrayList", name := "get", desc := "(I)Ljava/lang/Object;" } : Jvm.MethodName)) ∈ lw_all := lw_g (lw_at lw_m2 138 rfl) rfl
theorem q442 : (Jvm.Cond.selects "java/util/ArrayList" ({ cls := "java/util/ArrayList", name := "get", desc := "(I)Ljava/lang/Object;" } : Jvm.MethodName) ({ cls := "java/util/ArrayList", name := "get", desc := "(I)Ljava/lang/Object;" } : Jvm.MethodName)) ∈ lw_all := lw_g (lw_at lw_m2 139 rfl) rfl
theorem q443 : (Jvm.Cond.code ({ cls := "java/util/ArrayList", name := "get", desc := "(I)Ljava/lang/Object;" } : Jvm.MethodName) prog_41_method_20_code (2 : Nat) (Option.some (Jvm.ClassFile.FieldType.object "java/lang/Object"))) ∈ lw_all := lw_g (lw_at lw_m2 140 rfl) rfl
theorem q444 : (Jvm.Cond.methodLink "java/util/ArrayList" (118 : Nat) ({ cls := "java/util/Objects", name := "checkIndex", desc := "(II)I" } : Jvm.MethodName)) ∈ lw_all := lw_g (lw_at lw_m2 141 rfl) rfl
theorem q450 : (Jvm.Cond.methodLink "java/util/ArrayList" (123 : Nat) ({ cls := "java/util/ArrayList", name := "elementData", desc := "(I)Ljava/lang/Object;" } : Jvm.MethodName)) ∈ lw_all := lw_g (lw_at lw_m2 147 rfl) rfl
theorem q451 : (Jvm.Cond.instanceMethod ({ cls := "java/util/ArrayList", name := "elementData", desc := "(I)Ljava/lang/Object;" } : Jvm.MethodName)) ∈ lw_all := lw_g (lw_at lw_m2 148 rfl) rfl
theorem q452 : (Jvm.Cond.selects "java/util/ArrayList" ({ cls := "java/util/ArrayList", name := "elementData", desc := "(I)Ljava/lang/Object;" } : Jvm.MethodName) ({ cls := "java/util/ArrayList", name := "elementData", desc := "(I)Ljava/lang/Object;" } : Jvm.MethodName)) ∈ lw_all := lw_g (lw_at lw_m2 149 rfl) rfl
theorem q453 : (Jvm.Cond.code ({ cls := "java/util/ArrayList", name := "elementData", desc := "(I)Ljava/lang/Object;" } : Jvm.MethodName) prog_41_method_18_code (2 : Nat) (Option.some (Jvm.ClassFile.FieldType.object "java/lang/Object"))) ∈ lw_all := lw_g (lw_at lw_m2 150 rfl) rfl
theorem q488 : (Jvm.Cond.instanceMethod ({ cls := "java/util/ArrayList", name := "set", desc := "(ILjava/lang/Object;)Ljava/lang/Object;" } : Jvm.MethodName)) ∈ lw_all := lw_g (lw_at lw_m2 185 rfl) rfl
theorem q489 : (Jvm.Cond.selects "java/util/ArrayList" ({ cls := "java/util/ArrayList", name := "set", desc := "(ILjava/lang/Object;)Ljava/lang/Object;" } : Jvm.MethodName) ({ cls := "java/util/ArrayList", name := "set", desc := "(ILjava/lang/Object;)Ljava/lang/Object;" } : Jvm.MethodName)) ∈ lw_all := lw_g (lw_at lw_m2 186 rfl) rfl
theorem q490 : (Jvm.Cond.code ({ cls := "java/util/ArrayList", name := "set", desc := "(ILjava/lang/Object;)Ljava/lang/Object;" } : Jvm.MethodName) prog_41_method_23_code (4 : Nat) (Option.some (Jvm.ClassFile.FieldType.object "java/lang/Object"))) ∈ lw_all := lw_g (lw_at lw_m2 187 rfl) rfl
theorem q492 : (Jvm.Cond.instanceMethod ({ cls := "java/util/ArrayList", name := "iterator", desc := "()Ljava/util/Iterator;" } : Jvm.MethodName)) ∈ lw_all := lw_g (lw_at lw_m2 189 rfl) rfl
theorem q493 : (Jvm.Cond.selects "java/util/ArrayList" ({ cls := "java/util/ArrayList", name := "iterator", desc := "()Ljava/util/Iterator;" } : Jvm.MethodName) ({ cls := "java/util/ArrayList", name := "iterator", desc := "()Ljava/util/Iterator;" } : Jvm.MethodName)) ∈ lw_all := lw_g (lw_at lw_m2 190 rfl) rfl
theorem q494 : (Jvm.Cond.code ({ cls := "java/util/ArrayList", name := "iterator", desc := "()Ljava/util/Iterator;" } : Jvm.MethodName) prog_41_method_55_code (1 : Nat) (Option.some (Jvm.ClassFile.FieldType.object "java/util/Iterator"))) ∈ lw_all := lw_g (lw_at lw_m2 191 rfl) rfl
theorem q495 : (Jvm.Cond.classLink "java/util/ArrayList" (267 : Nat) "java/util/ArrayList$Itr") ∈ lw_all := lw_g (lw_at lw_m2 192 rfl) rfl
theorem q497 : (Jvm.Cond.methodLink "java/util/ArrayList" (269 : Nat) ({ cls := "java/util/ArrayList$Itr", name := "<init>", desc := "(Ljava/util/ArrayList;)V" } : Jvm.MethodName)) ∈ lw_all := lw_g (lw_at lw_m2 194 rfl) rfl
theorem q529 : (Jvm.Cond.selects "java/util/ArrayList" ({ cls := "java/util/AbstractList", name := "size", desc := "()I" } : Jvm.MethodName) ({ cls := "java/util/ArrayList", name := "size", desc := "()I" } : Jvm.MethodName)) ∈ lw_all := lw_g (lw_at lw_m2 226 rfl) rfl
theorem q530 : (Jvm.Cond.instanceMethod ({ cls := "java/util/ArrayList", name := "size", desc := "()I" } : Jvm.MethodName)) ∈ lw_all := lw_g (lw_at lw_m2 227 rfl) rfl
theorem q531 : (Jvm.Cond.code ({ cls := "java/util/ArrayList", name := "size", desc := "()I" } : Jvm.MethodName) prog_41_method_8_code (1 : Nat) (Option.some Jvm.ClassFile.FieldType.int)) ∈ lw_all := lw_g (lw_at lw_m2 228 rfl) rfl
theorem q567 : (Jvm.Cond.selects "java/util/ArrayList" ({ cls := "java/util/AbstractList", name := "get", desc := "(I)Ljava/lang/Object;" } : Jvm.MethodName) ({ cls := "java/util/ArrayList", name := "get", desc := "(I)Ljava/lang/Object;" } : Jvm.MethodName)) ∈ lw_all := lw_g (lw_at lw_m3 24 rfl) rfl
theorem q917 : (Jvm.Cond.selects "java/util/ArrayList" ({ cls := "java/util/AbstractList", name := "listIterator", desc := "(I)Ljava/util/ListIterator;" } : Jvm.MethodName) ({ cls := "java/util/ArrayList", name := "listIterator", desc := "(I)Ljava/util/ListIterator;" } : Jvm.MethodName)) ∈ lw_all := lw_g (lw_at lw_m4 134 rfl) rfl
theorem q918 : (Jvm.Cond.instanceMethod ({ cls := "java/util/ArrayList", name := "listIterator", desc := "(I)Ljava/util/ListIterator;" } : Jvm.MethodName)) ∈ lw_all := lw_g (lw_at lw_m4 135 rfl) rfl
theorem q919 : (Jvm.Cond.code ({ cls := "java/util/ArrayList", name := "listIterator", desc := "(I)Ljava/util/ListIterator;" } : Jvm.MethodName) prog_41_method_53_code (2 : Nat) (Option.some (Jvm.ClassFile.FieldType.object "java/util/ListIterator"))) ∈ lw_all := lw_g (lw_at lw_m4 136 rfl) rfl
theorem q920 : (Jvm.Cond.methodLink "java/util/ArrayList" (135 : Nat) ({ cls := "java/util/ArrayList", name := "rangeCheckForAdd", desc := "(I)V" } : Jvm.MethodName)) ∈ lw_all := lw_g (lw_at lw_m4 137 rfl) rfl
theorem q921 : (Jvm.Cond.privateMethod ({ cls := "java/util/ArrayList", name := "rangeCheckForAdd", desc := "(I)V" } : Jvm.MethodName)) ∈ lw_tbl := lw_at lw_m4 138 rfl
theorem q922 : (Jvm.Cond.instanceMethod ({ cls := "java/util/ArrayList", name := "rangeCheckForAdd", desc := "(I)V" } : Jvm.MethodName)) ∈ lw_all := lw_g (lw_at lw_m4 139 rfl) rfl
theorem q923 : (Jvm.Cond.code ({ cls := "java/util/ArrayList", name := "rangeCheckForAdd", desc := "(I)V" } : Jvm.MethodName) prog_41_method_45_code (2 : Nat) (Option.none : Option Jvm.ClassFile.FieldType)) ∈ lw_all := lw_g (lw_at lw_m4 140 rfl) rfl
theorem q924 : (Jvm.Cond.classLink "java/util/ArrayList" (262 : Nat) "java/util/ArrayList$ListItr") ∈ lw_all := lw_g (lw_at lw_m4 141 rfl) rfl
theorem q926 : (Jvm.Cond.methodLink "java/util/ArrayList" (264 : Nat) ({ cls := "java/util/ArrayList$ListItr", name := "<init>", desc := "(Ljava/util/ArrayList;I)V" } : Jvm.MethodName)) ∈ lw_all := lw_g (lw_at lw_m4 143 rfl) rfl
theorem q2242 : (Jvm.Cond.selects "java/util/ArrayList" ({ cls := "java/util/ArrayList", name := "size", desc := "()I" } : Jvm.MethodName) ({ cls := "java/util/ArrayList", name := "size", desc := "()I" } : Jvm.MethodName)) ∈ lw_all := lw_g (lw_at lw_m10 19 rfl) rfl
theorem q2255 : (Jvm.Cond.castable "java/util/ArrayList" "java/lang/Object") ∈ lw_tbl := lw_at lw_m10 32 rfl
theorem in_J2 : ∀ w ∈ wsJ20, w ∈ lw_all := lw_in wsJ20 [152, 148, 150] (by decide +kernel) (by decide +kernel)

/-! java/util/NoSuchElementException -/
set_option maxRecDepth 100000
def RJ20 : String := "java/util/NoSuchElementException"
def TJ20 : u_T := fun k => match k with
  | 0 => ("java/lang/Throwable", "cause", "Ljava/lang/Throwable;", false)
  | 1 => ("java/lang/Throwable", "stackTrace", "[Ljava/lang/StackTraceElement;", false)
  | 2 => ("java/lang/Throwable", "suppressedExceptions", "Ljava/util/List;", false)
  | 3 => ("java/lang/Throwable", "detailMessage", "Ljava/lang/String;", false)
  | 4 => ("java/lang/Throwable", "backtrace", "Ljava/lang/Object;", false)
  | _ => ("java/lang/Throwable", "depth", "I", false)
def tyJ20 : Nat → FieldType := fun k => match k with
  | 0 => .object "java/lang/Throwable"
  | 1 => .array (.object "java/lang/StackTraceElement")
  | 2 => .object "java/util/List"
  | 3 => .object "java/lang/String"
  | 4 => .object "java/lang/Object"
  | _ => .int
abbrev wsJ200 : List Cond := u_ws RJ20 TJ20 6
theorem nmJ20 : ∀ a, a < 6 → ∀ b, b < 6 → a ≠ b → (TJ20 a).2.1 ≠ (TJ20 b).2.1 := by decide +kernel
theorem tyJ20_ok : ∀ k, k < 6 → parseFieldDescriptor (TJ20 k).2.2.1 = some (tyJ20 k) := by decide +kernel
abbrev cJ20_init : ByteArray := prog_54_method_3_code
def yJ20_init : MethodName := ⟨RJ20, "<init>", "(Ljava/lang/Throwable;)V"⟩
def dkwJ20_init_0 : List UInt8 := [42, 43, 183, 0, 10, 177]
abbrev dktJ20_init_0 : List UInt8 := dkwJ20_init_0 ++ []
theorem dksJ20_init_0 : cJ20_init.data.toList.drop 0 = dktJ20_init_0 := by decide +kernel
theorem dJ20_init_0 : decode cJ20_init 0 = .ok (.aload_n 0, 1) := dk_42 (dk_at dksJ20_init_0 0 rfl rfl)
theorem dJ20_init_1 : decode cJ20_init 1 = .ok (.aload_n 1, 1) := dk_43 (dk_at dksJ20_init_0 1 rfl rfl)
theorem dJ20_init_2 : decode cJ20_init 2 = .ok (.invokespecial 10, 3) := dk_183 0 10 (dk_at dksJ20_init_0 2 rfl rfl)
theorem dJ20_init_5 : decode cJ20_init 5 = .ok (.return_, 1) := dk_177 (dk_at dksJ20_init_0 5 rfl rfl)
theorem q89 : (Jvm.Cond.initialized "java/util/NoSuchElementException") ∈ lw_all := lw_g (lw_at lw_m1 26 rfl) rfl
theorem q282 : (Jvm.Cond.selects "java/util/NoSuchElementException" ({ cls := "java/lang/Object", name := "getClass", desc := "()Ljava/lang/Class;" } : Jvm.MethodName) ({ cls := "java/lang/Object", name := "getClass", desc := "()Ljava/lang/Class;" } : Jvm.MethodName)) ∈ lw_all := lw_g (lw_at lw_m1 219 rfl) rfl
theorem q584 : (Jvm.Cond.instantiable "java/util/NoSuchElementException" (6 : Nat)) ∈ lw_all := lw_g (lw_at lw_m3 41 rfl) rfl
theorem q585 : (Jvm.Cond.castable "java/util/NoSuchElementException" "java/util/NoSuchElementException") ∈ lw_tbl := lw_at lw_m3 42 rfl
theorem q592 : (Jvm.Cond.selects "java/util/NoSuchElementException" ({ cls := "java/lang/Throwable", name := "fillInStackTrace", desc := "(I)Ljava/lang/Throwable;" } : Jvm.MethodName) ({ cls := "java/lang/Throwable", name := "fillInStackTrace", desc := "(I)Ljava/lang/Throwable;" } : Jvm.MethodName)) ∈ lw_all := lw_g (lw_at lw_m3 49 rfl) rfl
theorem q593 : (Jvm.Cond.selects "java/util/NoSuchElementException" ({ cls := "java/lang/Throwable", name := "fillInStackTrace", desc := "()Ljava/lang/Throwable;" } : Jvm.MethodName) ({ cls := "java/lang/Throwable", name := "fillInStackTrace", desc := "()Ljava/lang/Throwable;" } : Jvm.MethodName)) ∈ lw_all := lw_g (lw_at lw_m3 50 rfl) rfl
theorem q594 : (Jvm.Cond.lays "java/util/NoSuchElementException" "java/lang/Throwable" "cause" "Ljava/lang/Throwable;") ∈ lw_all := lw_g (lw_at lw_m3 51 rfl) rfl
theorem q596 : (Jvm.Cond.lays "java/util/NoSuchElementException" "java/lang/Throwable" "stackTrace" "[Ljava/lang/StackTraceElement;") ∈ lw_all := lw_g (lw_at lw_m3 53 rfl) rfl
theorem q598 : (Jvm.Cond.lays "java/util/NoSuchElementException" "java/lang/Throwable" "suppressedExceptions" "Ljava/util/List;") ∈ lw_all := lw_g (lw_at lw_m3 55 rfl) rfl
theorem q600 : (Jvm.Cond.lays "java/util/NoSuchElementException" "java/lang/Throwable" "detailMessage" "Ljava/lang/String;") ∈ lw_all := lw_g (lw_at lw_m3 57 rfl) rfl
theorem q602 : (Jvm.Cond.lays "java/util/NoSuchElementException" "java/lang/Throwable" "backtrace" "Ljava/lang/Object;") ∈ lw_all := lw_g (lw_at lw_m3 59 rfl) rfl
theorem q625 : (Jvm.Cond.instanceMethod ({ cls := "java/util/NoSuchElementException", name := "<init>", desc := "(Ljava/lang/Throwable;)V" } : Jvm.MethodName)) ∈ lw_all := lw_g (lw_at lw_m3 82 rfl) rfl
theorem q626 : (Jvm.Cond.code ({ cls := "java/util/NoSuchElementException", name := "<init>", desc := "(Ljava/lang/Throwable;)V" } : Jvm.MethodName) prog_54_method_3_code (2 : Nat) (Option.none : Option Jvm.ClassFile.FieldType)) ∈ lw_all := lw_g (lw_at lw_m3 83 rfl) rfl
theorem q627 : (Jvm.Cond.methodLink "java/util/NoSuchElementException" (10 : Nat) ({ cls := "java/lang/RuntimeException", name := "<init>", desc := "(Ljava/lang/Throwable;)V" } : Jvm.MethodName)) ∈ lw_all := lw_g (lw_at lw_m3 84 rfl) rfl
theorem q641 : (Jvm.Cond.selects "java/util/NoSuchElementException" ({ cls := "java/lang/Throwable", name := "toString", desc := "()Ljava/lang/String;" } : Jvm.MethodName) ({ cls := "java/lang/Throwable", name := "toString", desc := "()Ljava/lang/String;" } : Jvm.MethodName)) ∈ lw_all := lw_g (lw_at lw_m3 98 rfl) rfl
theorem q649 : (Jvm.Cond.selects "java/util/NoSuchElementException" ({ cls := "java/lang/Throwable", name := "getLocalizedMessage", desc := "()Ljava/lang/String;" } : Jvm.MethodName) ({ cls := "java/lang/Throwable", name := "getLocalizedMessage", desc := "()Ljava/lang/String;" } : Jvm.MethodName)) ∈ lw_all := lw_g (lw_at lw_m3 106 rfl) rfl
theorem q656 : (Jvm.Cond.selects "java/util/NoSuchElementException" ({ cls := "java/lang/Throwable", name := "getMessage", desc := "()Ljava/lang/String;" } : Jvm.MethodName) ({ cls := "java/lang/Throwable", name := "getMessage", desc := "()Ljava/lang/String;" } : Jvm.MethodName)) ∈ lw_all := lw_g (lw_at lw_m3 113 rfl) rfl
theorem q835 : (Jvm.Cond.lays "java/util/NoSuchElementException" "java/lang/Throwable" "depth" "I") ∈ lw_all := lw_g (lw_at lw_m4 52 rfl) rfl
theorem q838 : (Jvm.Cond.superclass "java/util/NoSuchElementException" "java/lang/RuntimeException") ∈ lw_all := lw_g (lw_at lw_m4 55 rfl) rfl
theorem q2267 : (Jvm.Cond.castable "java/util/NoSuchElementException" "java/lang/Object") ∈ lw_tbl := lw_at lw_m10 44 rfl
theorem in_J20 : ∀ w ∈ wsJ200, w ∈ lw_all := lw_in wsJ200 [594, 596, 598, 600, 602, 835] (by decide +kernel) (by decide +kernel)

/-! java/lang/StringLatin1 -/
set_option maxRecDepth 100000
def RJ21 : String := "java/lang/StringLatin1"
abbrev cJ21_inflate : ByteArray := prog_28_method_50_code
def yJ21_inflate : MethodName := ⟨RJ21, "inflate", "([BI[BII)V"⟩
def dkwJ21_inflate_0 : List UInt8 := [42, 27, 44, 29, 21, 4, 184, 0, 240, 177]
abbrev dktJ21_inflate_0 : List UInt8 := dkwJ21_inflate_0 ++ []
theorem dksJ21_inflate_0 : cJ21_inflate.data.toList.drop 0 = dktJ21_inflate_0 := by decide +kernel
theorem dJ21_inflate_0 : decode cJ21_inflate 0 = .ok (.aload_n 0, 1) := dk_42 (dk_at dksJ21_inflate_0 0 rfl rfl)
theorem dJ21_inflate_1 : decode cJ21_inflate 1 = .ok (.iload_n 1, 1) := dk_27 (dk_at dksJ21_inflate_0 1 rfl rfl)
theorem dJ21_inflate_2 : decode cJ21_inflate 2 = .ok (.aload_n 2, 1) := dk_44 (dk_at dksJ21_inflate_0 2 rfl rfl)
theorem dJ21_inflate_3 : decode cJ21_inflate 3 = .ok (.iload_n 3, 1) := dk_29 (dk_at dksJ21_inflate_0 3 rfl rfl)
theorem dJ21_inflate_4 : decode cJ21_inflate 4 = .ok (.iload 4, 2) := dk_21 4 (dk_at dksJ21_inflate_0 4 rfl rfl)
theorem dJ21_inflate_6 : decode cJ21_inflate 6 = .ok (.invokestatic 240, 3) := dk_184 0 240 (dk_at dksJ21_inflate_0 6 rfl rfl)
theorem dJ21_inflate_9 : decode cJ21_inflate 9 = .ok (.return_, 1) := dk_177 (dk_at dksJ21_inflate_0 9 rfl rfl)
abbrev cJ21_canEncode : ByteArray := prog_28_method_3_code
def yJ21_canEncode : MethodName := ⟨RJ21, "canEncode", "(C)Z"⟩
def dkwJ21_canEncode_0 : List UInt8 := [26, 17, 0, 255, 163, 0, 7, 4, 167, 0, 4, 3, 172]
abbrev dktJ21_canEncode_0 : List UInt8 := dkwJ21_canEncode_0 ++ []
theorem dksJ21_canEncode_0 : cJ21_canEncode.data.toList.drop 0 = dktJ21_canEncode_0 := by decide +kernel
theorem dJ21_canEncode_0 : decode cJ21_canEncode 0 = .ok (.iload_n 0, 1) := dk_26 (dk_at dksJ21_canEncode_0 0 rfl rfl)
theorem dJ21_canEncode_1 : decode cJ21_canEncode 1 = .ok (.sipush 255, 3) := dk_17 0 255 (dk_at dksJ21_canEncode_0 1 rfl rfl)
theorem dJ21_canEncode_4 : decode cJ21_canEncode 4 = .ok (.if_icmp .gt 7, 3) := dk_163 0 7 (dk_at dksJ21_canEncode_0 4 rfl rfl)
theorem dJ21_canEncode_7 : decode cJ21_canEncode 7 = .ok (.iconst 1, 1) := dk_4 (dk_at dksJ21_canEncode_0 7 rfl rfl)
theorem dJ21_canEncode_8 : decode cJ21_canEncode 8 = .ok (.goto 4, 3) := dk_167 0 4 (dk_at dksJ21_canEncode_0 8 rfl rfl)
theorem dJ21_canEncode_11 : decode cJ21_canEncode 11 = .ok (.iconst 0, 1) := dk_3 (dk_at dksJ21_canEncode_0 11 rfl rfl)
theorem dJ21_canEncode_12 : decode cJ21_canEncode 12 = .ok (.ireturn, 1) := dk_172 (dk_at dksJ21_canEncode_0 12 rfl rfl)
abbrev cJ21_charAt : ByteArray := prog_28_method_2_code
def yJ21_charAt : MethodName := ⟨RJ21, "charAt", "([BI)C"⟩
def dkwJ21_charAt_0 : List UInt8 := [27, 42, 190, 184, 0, 9, 42, 27, 51, 17, 0, 255, 126, 146, 172]
abbrev dktJ21_charAt_0 : List UInt8 := dkwJ21_charAt_0 ++ []
theorem dksJ21_charAt_0 : cJ21_charAt.data.toList.drop 0 = dktJ21_charAt_0 := by decide +kernel
theorem dJ21_charAt_0 : decode cJ21_charAt 0 = .ok (.iload_n 1, 1) := dk_27 (dk_at dksJ21_charAt_0 0 rfl rfl)
theorem dJ21_charAt_1 : decode cJ21_charAt 1 = .ok (.aload_n 0, 1) := dk_42 (dk_at dksJ21_charAt_0 1 rfl rfl)
theorem dJ21_charAt_2 : decode cJ21_charAt 2 = .ok (.arraylength, 1) := dk_190 (dk_at dksJ21_charAt_0 2 rfl rfl)
theorem dJ21_charAt_3 : decode cJ21_charAt 3 = .ok (.invokestatic 9, 3) := dk_184 0 9 (dk_at dksJ21_charAt_0 3 rfl rfl)
theorem dJ21_charAt_6 : decode cJ21_charAt 6 = .ok (.aload_n 0, 1) := dk_42 (dk_at dksJ21_charAt_0 6 rfl rfl)
theorem dJ21_charAt_7 : decode cJ21_charAt 7 = .ok (.iload_n 1, 1) := dk_27 (dk_at dksJ21_charAt_0 7 rfl rfl)
theorem dJ21_charAt_8 : decode cJ21_charAt 8 = .ok (.baload, 1) := dk_51 (dk_at dksJ21_charAt_0 8 rfl rfl)
theorem dJ21_charAt_9 : decode cJ21_charAt 9 = .ok (.sipush 255, 3) := dk_17 0 255 (dk_at dksJ21_charAt_0 9 rfl rfl)
theorem dJ21_charAt_12 : decode cJ21_charAt 12 = .ok (.iand, 1) := dk_126 (dk_at dksJ21_charAt_0 12 rfl rfl)
theorem dJ21_charAt_13 : decode cJ21_charAt 13 = .ok (.i2c, 1) := dk_146 (dk_at dksJ21_charAt_0 13 rfl rfl)
theorem dJ21_charAt_14 : decode cJ21_charAt 14 = .ok (.ireturn, 1) := dk_172 (dk_at dksJ21_charAt_0 14 rfl rfl)
abbrev cJ21_hashCode : ByteArray := prog_28_method_21_code
def yJ21_hashCode : MethodName := ⟨RJ21, "hashCode", "([B)I"⟩
def dkwJ21_hashCode_2 : List UInt8 := [3, 167, 0, 22, 42, 3, 51, 17, 0, 255, 126, 167, 0, 12, 42, 3, 42, 190, 3, 7, 184, 0, 84, 172]
abbrev dktJ21_hashCode_2 : List UInt8 := dkwJ21_hashCode_2 ++ []
def dkwJ21_hashCode_1 : List UInt8 := [171, 0, 0, 0, 0, 40, 0, 0, 0, 2, 0, 0, 0, 0, 0, 0, 0, 26, 0, 0, 0, 1, 0, 0, 0, 30]
abbrev dktJ21_hashCode_1 : List UInt8 := dkwJ21_hashCode_1 ++ dktJ21_hashCode_2
def dkwJ21_hashCode_0 : List UInt8 := [42, 190]
abbrev dktJ21_hashCode_0 : List UInt8 := dkwJ21_hashCode_0 ++ dktJ21_hashCode_1
theorem dksJ21_hashCode_0 : cJ21_hashCode.data.toList.drop 0 = dktJ21_hashCode_0 := by decide +kernel
theorem dksJ21_hashCode_1 : cJ21_hashCode.data.toList.drop 2 = dktJ21_hashCode_1 := dk_seg dksJ21_hashCode_0 2 rfl rfl
theorem dksJ21_hashCode_2 : cJ21_hashCode.data.toList.drop 28 = dktJ21_hashCode_2 := dk_seg dksJ21_hashCode_1 26 rfl rfl
theorem dJ21_hashCode_0 : decode cJ21_hashCode 0 = .ok (.aload_n 0, 1) := dk_42 (dk_at dksJ21_hashCode_0 0 rfl rfl)
theorem dJ21_hashCode_1 : decode cJ21_hashCode 1 = .ok (.arraylength, 1) := dk_190 (dk_at dksJ21_hashCode_0 1 rfl rfl)
theorem dJ21_hashCode_2 : decode cJ21_hashCode 2 = .ok (.lookupswitch 40 #[(0, 26), (1, 30)], 26) := by decide +kernel
theorem dJ21_hashCode_28 : decode cJ21_hashCode 28 = .ok (.iconst 0, 1) := dk_3 (dk_at dksJ21_hashCode_2 0 rfl rfl)
theorem dJ21_hashCode_29 : decode cJ21_hashCode 29 = .ok (.goto 22, 3) := dk_167 0 22 (dk_at dksJ21_hashCode_2 1 rfl rfl)
theorem dJ21_hashCode_32 : decode cJ21_hashCode 32 = .ok (.aload_n 0, 1) := dk_42 (dk_at dksJ21_hashCode_2 4 rfl rfl)
theorem dJ21_hashCode_33 : decode cJ21_hashCode 33 = .ok (.iconst 0, 1) := dk_3 (dk_at dksJ21_hashCode_2 5 rfl rfl)
theorem dJ21_hashCode_34 : decode cJ21_hashCode 34 = .ok (.baload, 1) := dk_51 (dk_at dksJ21_hashCode_2 6 rfl rfl)
theorem dJ21_hashCode_35 : decode cJ21_hashCode 35 = .ok (.sipush 255, 3) := dk_17 0 255 (dk_at dksJ21_hashCode_2 7 rfl rfl)
theorem dJ21_hashCode_38 : decode cJ21_hashCode 38 = .ok (.iand, 1) := dk_126 (dk_at dksJ21_hashCode_2 10 rfl rfl)
theorem dJ21_hashCode_39 : decode cJ21_hashCode 39 = .ok (.goto 12, 3) := dk_167 0 12 (dk_at dksJ21_hashCode_2 11 rfl rfl)
theorem dJ21_hashCode_42 : decode cJ21_hashCode 42 = .ok (.aload_n 0, 1) := dk_42 (dk_at dksJ21_hashCode_2 14 rfl rfl)
theorem dJ21_hashCode_43 : decode cJ21_hashCode 43 = .ok (.iconst 0, 1) := dk_3 (dk_at dksJ21_hashCode_2 15 rfl rfl)
theorem dJ21_hashCode_44 : decode cJ21_hashCode 44 = .ok (.aload_n 0, 1) := dk_42 (dk_at dksJ21_hashCode_2 16 rfl rfl)
theorem dJ21_hashCode_45 : decode cJ21_hashCode 45 = .ok (.arraylength, 1) := dk_190 (dk_at dksJ21_hashCode_2 17 rfl rfl)
theorem dJ21_hashCode_46 : decode cJ21_hashCode 46 = .ok (.iconst 0, 1) := dk_3 (dk_at dksJ21_hashCode_2 18 rfl rfl)
theorem dJ21_hashCode_47 : decode cJ21_hashCode 47 = .ok (.iconst 4, 1) := dk_7 (dk_at dksJ21_hashCode_2 19 rfl rfl)
theorem dJ21_hashCode_48 : decode cJ21_hashCode 48 = .ok (.invokestatic 84, 3) := dk_184 0 84 (dk_at dksJ21_hashCode_2 20 rfl rfl)
theorem dJ21_hashCode_51 : decode cJ21_hashCode 51 = .ok (.ireturn, 1) := dk_172 (dk_at dksJ21_hashCode_2 23 rfl rfl)
abbrev cJ21_equals : ByteArray := prog_28_method_13_code
def yJ21_equals : MethodName := ⟨RJ21, "equals", "([B[B)Z"⟩
def dkwJ21_equals_1 : List UInt8 := [3, 172, 132, 2, 1, 167, 255, 236, 4, 172, 3, 172]
abbrev dktJ21_equals_1 : List UInt8 := dkwJ21_equals_1 ++ []
def dkwJ21_equals_0 : List UInt8 := [42, 190, 43, 190, 160, 0, 30, 3, 61, 28, 42, 190, 162, 0, 20, 42, 28, 51, 43, 28, 51, 159, 0, 5]
abbrev dktJ21_equals_0 : List UInt8 := dkwJ21_equals_0 ++ dktJ21_equals_1
theorem dksJ21_equals_0 : cJ21_equals.data.toList.drop 0 = dktJ21_equals_0 := by decide +kernel
theorem dksJ21_equals_1 : cJ21_equals.data.toList.drop 24 = dktJ21_equals_1 := dk_seg dksJ21_equals_0 24 rfl rfl
theorem dJ21_equals_0 : decode cJ21_equals 0 = .ok (.aload_n 0, 1) := dk_42 (dk_at dksJ21_equals_0 0 rfl rfl)
theorem dJ21_equals_1 : decode cJ21_equals 1 = .ok (.arraylength, 1) := dk_190 (dk_at dksJ21_equals_0 1 rfl rfl)
theorem dJ21_equals_2 : decode cJ21_equals 2 = .ok (.aload_n 1, 1) := dk_43 (dk_at dksJ21_equals_0 2 rfl rfl)
theorem dJ21_equals_3 : decode cJ21_equals 3 = .ok (.arraylength, 1) := dk_190 (dk_at dksJ21_equals_0 3 rfl rfl)
theorem dJ21_equals_4 : decode cJ21_equals 4 = .ok (.if_icmp .ne 30, 3) := dk_160 0 30 (dk_at dksJ21_equals_0 4 rfl rfl)
theorem dJ21_equals_7 : decode cJ21_equals 7 = .ok (.iconst 0, 1) := dk_3 (dk_at dksJ21_equals_0 7 rfl rfl)
theorem dJ21_equals_8 : decode cJ21_equals 8 = .ok (.istore_n 2, 1) := dk_61 (dk_at dksJ21_equals_0 8 rfl rfl)
theorem dJ21_equals_9 : decode cJ21_equals 9 = .ok (.iload_n 2, 1) := dk_28 (dk_at dksJ21_equals_0 9 rfl rfl)
theorem dJ21_equals_10 : decode cJ21_equals 10 = .ok (.aload_n 0, 1) := dk_42 (dk_at dksJ21_equals_0 10 rfl rfl)
theorem dJ21_equals_11 : decode cJ21_equals 11 = .ok (.arraylength, 1) := dk_190 (dk_at dksJ21_equals_0 11 rfl rfl)
theorem dJ21_equals_12 : decode cJ21_equals 12 = .ok (.if_icmp .ge 20, 3) := dk_162 0 20 (dk_at dksJ21_equals_0 12 rfl rfl)
theorem dJ21_equals_15 : decode cJ21_equals 15 = .ok (.aload_n 0, 1) := dk_42 (dk_at dksJ21_equals_0 15 rfl rfl)
theorem dJ21_equals_16 : decode cJ21_equals 16 = .ok (.iload_n 2, 1) := dk_28 (dk_at dksJ21_equals_0 16 rfl rfl)
theorem dJ21_equals_17 : decode cJ21_equals 17 = .ok (.baload, 1) := dk_51 (dk_at dksJ21_equals_0 17 rfl rfl)
theorem dJ21_equals_18 : decode cJ21_equals 18 = .ok (.aload_n 1, 1) := dk_43 (dk_at dksJ21_equals_0 18 rfl rfl)
theorem dJ21_equals_19 : decode cJ21_equals 19 = .ok (.iload_n 2, 1) := dk_28 (dk_at dksJ21_equals_0 19 rfl rfl)
theorem dJ21_equals_20 : decode cJ21_equals 20 = .ok (.baload, 1) := dk_51 (dk_at dksJ21_equals_0 20 rfl rfl)
theorem dJ21_equals_21 : decode cJ21_equals 21 = .ok (.if_icmp .eq 5, 3) := dk_159 0 5 (dk_at dksJ21_equals_0 21 rfl rfl)
theorem dJ21_equals_24 : decode cJ21_equals 24 = .ok (.iconst 0, 1) := dk_3 (dk_at dksJ21_equals_1 0 rfl rfl)
theorem dJ21_equals_25 : decode cJ21_equals 25 = .ok (.ireturn, 1) := dk_172 (dk_at dksJ21_equals_1 1 rfl rfl)
theorem dJ21_equals_26 : decode cJ21_equals 26 = .ok (.iinc 2 1, 3) := dk_132 2 1 (dk_at dksJ21_equals_1 2 rfl rfl)
theorem dJ21_equals_29 : decode cJ21_equals 29 = .ok (.goto (-20), 3) := dk_167 255 236 (dk_at dksJ21_equals_1 5 rfl rfl)
theorem dJ21_equals_32 : decode cJ21_equals 32 = .ok (.iconst 1, 1) := dk_4 (dk_at dksJ21_equals_1 8 rfl rfl)
theorem dJ21_equals_33 : decode cJ21_equals 33 = .ok (.ireturn, 1) := dk_172 (dk_at dksJ21_equals_1 9 rfl rfl)
theorem dJ21_equals_34 : decode cJ21_equals 34 = .ok (.iconst 0, 1) := dk_3 (dk_at dksJ21_equals_1 10 rfl rfl)
theorem dJ21_equals_35 : decode cJ21_equals 35 = .ok (.ireturn, 1) := dk_172 (dk_at dksJ21_equals_1 11 rfl rfl)
abbrev cJ21_fillNull : ByteArray := prog_28_method_48_code
def yJ21_fillNull : MethodName := ⟨RJ21, "fillNull", "([BII)V"⟩
def dkwJ21_fillNull_0 : List UInt8 := [42, 27, 28, 3, 184, 0, 236, 177]
abbrev dktJ21_fillNull_0 : List UInt8 := dkwJ21_fillNull_0 ++ []
theorem dksJ21_fillNull_0 : cJ21_fillNull.data.toList.drop 0 = dktJ21_fillNull_0 := by decide +kernel
theorem dJ21_fillNull_0 : decode cJ21_fillNull 0 = .ok (.aload_n 0, 1) := dk_42 (dk_at dksJ21_fillNull_0 0 rfl rfl)
theorem dJ21_fillNull_1 : decode cJ21_fillNull 1 = .ok (.iload_n 1, 1) := dk_27 (dk_at dksJ21_fillNull_0 1 rfl rfl)
theorem dJ21_fillNull_2 : decode cJ21_fillNull 2 = .ok (.iload_n 2, 1) := dk_28 (dk_at dksJ21_fillNull_0 2 rfl rfl)
theorem dJ21_fillNull_3 : decode cJ21_fillNull 3 = .ok (.iconst 0, 1) := dk_3 (dk_at dksJ21_fillNull_0 3 rfl rfl)
theorem dJ21_fillNull_4 : decode cJ21_fillNull 4 = .ok (.invokestatic 236, 3) := dk_184 0 236 (dk_at dksJ21_fillNull_0 4 rfl rfl)
theorem dJ21_fillNull_7 : decode cJ21_fillNull 7 = .ok (.return_, 1) := dk_177 (dk_at dksJ21_fillNull_0 7 rfl rfl)
theorem q90 : (Jvm.Cond.initialized "java/lang/StringLatin1") ∈ lw_all := lw_g (lw_at lw_m1 27 rfl) rfl
theorem q743 : (Jvm.Cond.static ({ cls := "java/lang/StringLatin1", name := "inflate", desc := "([BI[BII)V" } : Jvm.MethodName)) ∈ lw_all := lw_g (lw_at lw_m3 200 rfl) rfl
theorem q744 : (Jvm.Cond.code ({ cls := "java/lang/StringLatin1", name := "inflate", desc := "([BI[BII)V" } : Jvm.MethodName) prog_28_method_50_code (5 : Nat) (Option.none : Option Jvm.ClassFile.FieldType)) ∈ lw_all := lw_g (lw_at lw_m3 201 rfl) rfl
theorem q745 : (Jvm.Cond.methodLink "java/lang/StringLatin1" (240 : Nat) ({ cls := "java/lang/StringUTF16", name := "inflate", desc := "([BI[BII)V" } : Jvm.MethodName)) ∈ lw_all := lw_g (lw_at lw_m3 202 rfl) rfl
theorem q1438 : (Jvm.Cond.static ({ cls := "java/lang/StringLatin1", name := "canEncode", desc := "(C)Z" } : Jvm.MethodName)) ∈ lw_all := lw_g (lw_at lw_m6 175 rfl) rfl
theorem q1439 : (Jvm.Cond.code ({ cls := "java/lang/StringLatin1", name := "canEncode", desc := "(C)Z" } : Jvm.MethodName) prog_28_method_3_code (1 : Nat) (Option.some Jvm.ClassFile.FieldType.boolean)) ∈ lw_all := lw_g (lw_at lw_m6 176 rfl) rfl
theorem q1526 : (Jvm.Cond.static ({ cls := "java/lang/StringLatin1", name := "charAt", desc := "([BI)C" } : Jvm.MethodName)) ∈ lw_all := lw_g (lw_at lw_m7 23 rfl) rfl
theorem q1527 : (Jvm.Cond.code ({ cls := "java/lang/StringLatin1", name := "charAt", desc := "([BI)C" } : Jvm.MethodName) prog_28_method_2_code (2 : Nat) (Option.some Jvm.ClassFile.FieldType.char)) ∈ lw_all := lw_g (lw_at lw_m7 24 rfl) rfl
theorem q1528 : (Jvm.Cond.methodLink "java/lang/StringLatin1" (9 : Nat) ({ cls := "java/lang/String", name := "checkIndex", desc := "(II)V" } : Jvm.MethodName)) ∈ lw_all := lw_g (lw_at lw_m7 25 rfl) rfl
theorem q1598 : (Jvm.Cond.static ({ cls := "java/lang/StringLatin1", name := "hashCode", desc := "([B)I" } : Jvm.MethodName)) ∈ lw_all := lw_g (lw_at lw_m7 95 rfl) rfl
theorem q1599 : (Jvm.Cond.code ({ cls := "java/lang/StringLatin1", name := "hashCode", desc := "([B)I" } : Jvm.MethodName) prog_28_method_21_code (1 : Nat) (Option.some Jvm.ClassFile.FieldType.int)) ∈ lw_all := lw_g (lw_at lw_m7 96 rfl) rfl
theorem q1600 : (Jvm.Cond.methodLink "java/lang/StringLatin1" (84 : Nat) ({ cls := "jdk/internal/util/ArraysSupport", name := "vectorizedHashCode", desc := "(Ljava/lang/Object;IIII)I" } : Jvm.MethodName)) ∈ lw_all := lw_g (lw_at lw_m7 97 rfl) rfl
theorem q1648 : (Jvm.Cond.static ({ cls := "java/lang/StringLatin1", name := "equals", desc := "([B[B)Z" } : Jvm.MethodName)) ∈ lw_all := lw_g (lw_at lw_m7 145 rfl) rfl
theorem q1649 : (Jvm.Cond.code ({ cls := "java/lang/StringLatin1", name := "equals", desc := "([B[B)Z" } : Jvm.MethodName) prog_28_method_13_code (3 : Nat) (Option.some Jvm.ClassFile.FieldType.boolean)) ∈ lw_all := lw_g (lw_at lw_m7 146 rfl) rfl
theorem q1709 : (Jvm.Cond.static ({ cls := "java/lang/StringLatin1", name := "fillNull", desc := "([BII)V" } : Jvm.MethodName)) ∈ lw_all := lw_g (lw_at lw_m7 206 rfl) rfl
theorem q1710 : (Jvm.Cond.code ({ cls := "java/lang/StringLatin1", name := "fillNull", desc := "([BII)V" } : Jvm.MethodName) prog_28_method_48_code (3 : Nat) (Option.none : Option Jvm.ClassFile.FieldType)) ∈ lw_all := lw_g (lw_at lw_m7 207 rfl) rfl
theorem q1711 : (Jvm.Cond.methodLink "java/lang/StringLatin1" (236 : Nat) ({ cls := "java/util/Arrays", name := "fill", desc := "([BIIB)V" } : Jvm.MethodName)) ∈ lw_all := lw_g (lw_at lw_m7 208 rfl) rfl

/-! java/util/AbstractList$Itr -/
set_option maxRecDepth 100000
def RJ22 : String := "java/util/AbstractList$Itr"
abbrev cJ22_hasNext : ByteArray := prog_37_method_2_code
def yJ22_hasNext : MethodName := ⟨RJ22, "hasNext", "()Z"⟩
def dkwJ22_hasNext_0 : List UInt8 := [42, 180, 0, 13, 42, 180, 0, 1, 182, 0, 28, 159, 0, 7, 4, 167, 0, 4, 3, 172]
abbrev dktJ22_hasNext_0 : List UInt8 := dkwJ22_hasNext_0 ++ []
theorem dksJ22_hasNext_0 : cJ22_hasNext.data.toList.drop 0 = dktJ22_hasNext_0 := by decide +kernel
theorem dJ22_hasNext_0 : decode cJ22_hasNext 0 = .ok (.aload_n 0, 1) := dk_42 (dk_at dksJ22_hasNext_0 0 rfl rfl)
theorem dJ22_hasNext_1 : decode cJ22_hasNext 1 = .ok (.getfield 13, 3) := dk_180 0 13 (dk_at dksJ22_hasNext_0 1 rfl rfl)
theorem dJ22_hasNext_4 : decode cJ22_hasNext 4 = .ok (.aload_n 0, 1) := dk_42 (dk_at dksJ22_hasNext_0 4 rfl rfl)
theorem dJ22_hasNext_5 : decode cJ22_hasNext 5 = .ok (.getfield 1, 3) := dk_180 0 1 (dk_at dksJ22_hasNext_0 5 rfl rfl)
theorem dJ22_hasNext_8 : decode cJ22_hasNext 8 = .ok (.invokevirtual 28, 3) := dk_182 0 28 (dk_at dksJ22_hasNext_0 8 rfl rfl)
theorem dJ22_hasNext_11 : decode cJ22_hasNext 11 = .ok (.if_icmp .eq 7, 3) := dk_159 0 7 (dk_at dksJ22_hasNext_0 11 rfl rfl)
theorem dJ22_hasNext_14 : decode cJ22_hasNext 14 = .ok (.iconst 1, 1) := dk_4 (dk_at dksJ22_hasNext_0 14 rfl rfl)
theorem dJ22_hasNext_15 : decode cJ22_hasNext 15 = .ok (.goto 4, 3) := dk_167 0 4 (dk_at dksJ22_hasNext_0 15 rfl rfl)
theorem dJ22_hasNext_18 : decode cJ22_hasNext 18 = .ok (.iconst 0, 1) := dk_3 (dk_at dksJ22_hasNext_0 18 rfl rfl)
theorem dJ22_hasNext_19 : decode cJ22_hasNext 19 = .ok (.ireturn, 1) := dk_172 (dk_at dksJ22_hasNext_0 19 rfl rfl)
abbrev cJ22_next : ByteArray := prog_37_method_3_code
def yJ22_next : MethodName := ⟨RJ22, "next", "()Ljava/lang/Object;"⟩
def dkwJ22_next_1 : List UInt8 := [27, 4, 96, 181, 0, 13, 44, 176, 76, 42, 182, 0, 32, 187, 0, 41, 89, 43, 183, 0, 43, 191]
abbrev dktJ22_next_1 : List UInt8 := dkwJ22_next_1 ++ []
def dkwJ22_next_0 : List UInt8 := [42, 182, 0, 32, 42, 180, 0, 13, 60, 42, 180, 0, 1, 27, 182, 0, 35, 77, 42, 27, 181, 0, 17, 42]
abbrev dktJ22_next_0 : List UInt8 := dkwJ22_next_0 ++ dktJ22_next_1
theorem dksJ22_next_0 : cJ22_next.data.toList.drop 0 = dktJ22_next_0 := by decide +kernel
theorem dksJ22_next_1 : cJ22_next.data.toList.drop 24 = dktJ22_next_1 := dk_seg dksJ22_next_0 24 rfl rfl
theorem dJ22_next_0 : decode cJ22_next 0 = .ok (.aload_n 0, 1) := dk_42 (dk_at dksJ22_next_0 0 rfl rfl)
theorem dJ22_next_1 : decode cJ22_next 1 = .ok (.invokevirtual 32, 3) := dk_182 0 32 (dk_at dksJ22_next_0 1 rfl rfl)
theorem dJ22_next_4 : decode cJ22_next 4 = .ok (.aload_n 0, 1) := dk_42 (dk_at dksJ22_next_0 4 rfl rfl)
theorem dJ22_next_5 : decode cJ22_next 5 = .ok (.getfield 13, 3) := dk_180 0 13 (dk_at dksJ22_next_0 5 rfl rfl)
theorem dJ22_next_8 : decode cJ22_next 8 = .ok (.istore_n 1, 1) := dk_60 (dk_at dksJ22_next_0 8 rfl rfl)
theorem dJ22_next_9 : decode cJ22_next 9 = .ok (.aload_n 0, 1) := dk_42 (dk_at dksJ22_next_0 9 rfl rfl)
theorem dJ22_next_10 : decode cJ22_next 10 = .ok (.getfield 1, 3) := dk_180 0 1 (dk_at dksJ22_next_0 10 rfl rfl)
theorem dJ22_next_13 : decode cJ22_next 13 = .ok (.iload_n 1, 1) := dk_27 (dk_at dksJ22_next_0 13 rfl rfl)
theorem dJ22_next_14 : decode cJ22_next 14 = .ok (.invokevirtual 35, 3) := dk_182 0 35 (dk_at dksJ22_next_0 14 rfl rfl)
theorem dJ22_next_17 : decode cJ22_next 17 = .ok (.astore_n 2, 1) := dk_77 (dk_at dksJ22_next_0 17 rfl rfl)
theorem dJ22_next_18 : decode cJ22_next 18 = .ok (.aload_n 0, 1) := dk_42 (dk_at dksJ22_next_0 18 rfl rfl)
theorem dJ22_next_19 : decode cJ22_next 19 = .ok (.iload_n 1, 1) := dk_27 (dk_at dksJ22_next_0 19 rfl rfl)
theorem dJ22_next_20 : decode cJ22_next 20 = .ok (.putfield 17, 3) := dk_181 0 17 (dk_at dksJ22_next_0 20 rfl rfl)
theorem dJ22_next_23 : decode cJ22_next 23 = .ok (.aload_n 0, 1) := dk_42 (dk_at dksJ22_next_0 23 rfl rfl)
theorem dJ22_next_24 : decode cJ22_next 24 = .ok (.iload_n 1, 1) := dk_27 (dk_at dksJ22_next_1 0 rfl rfl)
theorem dJ22_next_25 : decode cJ22_next 25 = .ok (.iconst 1, 1) := dk_4 (dk_at dksJ22_next_1 1 rfl rfl)
theorem dJ22_next_26 : decode cJ22_next 26 = .ok (.iadd, 1) := dk_96 (dk_at dksJ22_next_1 2 rfl rfl)
theorem dJ22_next_27 : decode cJ22_next 27 = .ok (.putfield 13, 3) := dk_181 0 13 (dk_at dksJ22_next_1 3 rfl rfl)
theorem dJ22_next_30 : decode cJ22_next 30 = .ok (.aload_n 2, 1) := dk_44 (dk_at dksJ22_next_1 6 rfl rfl)
theorem dJ22_next_31 : decode cJ22_next 31 = .ok (.areturn, 1) := dk_176 (dk_at dksJ22_next_1 7 rfl rfl)
theorem dJ22_next_32 : decode cJ22_next 32 = .ok (.astore_n 1, 1) := dk_76 (dk_at dksJ22_next_1 8 rfl rfl)
theorem dJ22_next_33 : decode cJ22_next 33 = .ok (.aload_n 0, 1) := dk_42 (dk_at dksJ22_next_1 9 rfl rfl)
theorem dJ22_next_34 : decode cJ22_next 34 = .ok (.invokevirtual 32, 3) := dk_182 0 32 (dk_at dksJ22_next_1 10 rfl rfl)
theorem dJ22_next_37 : decode cJ22_next 37 = .ok (.new 41, 3) := dk_187 0 41 (dk_at dksJ22_next_1 13 rfl rfl)
theorem dJ22_next_40 : decode cJ22_next 40 = .ok (.dup, 1) := dk_89 (dk_at dksJ22_next_1 16 rfl rfl)
theorem dJ22_next_41 : decode cJ22_next 41 = .ok (.aload_n 1, 1) := dk_43 (dk_at dksJ22_next_1 17 rfl rfl)
theorem dJ22_next_42 : decode cJ22_next 42 = .ok (.invokespecial 43, 3) := dk_183 0 43 (dk_at dksJ22_next_1 18 rfl rfl)
theorem dJ22_next_45 : decode cJ22_next 45 = .ok (.athrow, 1) := dk_191 (dk_at dksJ22_next_1 21 rfl rfl)
abbrev cJ22_checkForComodification : ByteArray := prog_37_method_5_code
def yJ22_checkForComodification : MethodName := ⟨RJ22, "checkForComodification", "()V"⟩
def dkwJ22_checkForComodification_0 : List UInt8 := [42, 180, 0, 1, 180, 0, 20, 42, 180, 0, 25, 159, 0, 11, 187, 0, 52, 89, 183, 0, 54, 191, 177]
abbrev dktJ22_checkForComodification_0 : List UInt8 := dkwJ22_checkForComodification_0 ++ []
theorem dksJ22_checkForComodification_0 : cJ22_checkForComodification.data.toList.drop 0 = dktJ22_checkForComodification_0 := by decide +kernel
theorem dJ22_checkForComodification_0 : decode cJ22_checkForComodification 0 = .ok (.aload_n 0, 1) := dk_42 (dk_at dksJ22_checkForComodification_0 0 rfl rfl)
theorem dJ22_checkForComodification_1 : decode cJ22_checkForComodification 1 = .ok (.getfield 1, 3) := dk_180 0 1 (dk_at dksJ22_checkForComodification_0 1 rfl rfl)
theorem dJ22_checkForComodification_4 : decode cJ22_checkForComodification 4 = .ok (.getfield 20, 3) := dk_180 0 20 (dk_at dksJ22_checkForComodification_0 4 rfl rfl)
theorem dJ22_checkForComodification_7 : decode cJ22_checkForComodification 7 = .ok (.aload_n 0, 1) := dk_42 (dk_at dksJ22_checkForComodification_0 7 rfl rfl)
theorem dJ22_checkForComodification_8 : decode cJ22_checkForComodification 8 = .ok (.getfield 25, 3) := dk_180 0 25 (dk_at dksJ22_checkForComodification_0 8 rfl rfl)
theorem dJ22_checkForComodification_11 : decode cJ22_checkForComodification 11 = .ok (.if_icmp .eq 11, 3) := dk_159 0 11 (dk_at dksJ22_checkForComodification_0 11 rfl rfl)
theorem dJ22_checkForComodification_14 : decode cJ22_checkForComodification 14 = .ok (.new 52, 3) := dk_187 0 52 (dk_at dksJ22_checkForComodification_0 14 rfl rfl)
theorem dJ22_checkForComodification_17 : decode cJ22_checkForComodification 17 = .ok (.dup, 1) := dk_89 (dk_at dksJ22_checkForComodification_0 17 rfl rfl)
theorem dJ22_checkForComodification_18 : decode cJ22_checkForComodification 18 = .ok (.invokespecial 54, 3) := dk_183 0 54 (dk_at dksJ22_checkForComodification_0 18 rfl rfl)
theorem dJ22_checkForComodification_21 : decode cJ22_checkForComodification 21 = .ok (.athrow, 1) := dk_191 (dk_at dksJ22_checkForComodification_0 21 rfl rfl)
theorem dJ22_checkForComodification_22 : decode cJ22_checkForComodification 22 = .ok (.return_, 1) := dk_177 (dk_at dksJ22_checkForComodification_0 22 rfl rfl)
theorem q92 : (Jvm.Cond.initialized "java/util/AbstractList$Itr") ∈ lw_all := lw_g (lw_at lw_m1 29 rfl) rfl
theorem q145 : (Jvm.Cond.fieldLink "java/util/AbstractList$Itr" (20 : Nat) "java/util/AbstractList" "modCount" "I") ∈ lw_all := lw_g (lw_at lw_m1 82 rfl) rfl
theorem q523 : (Jvm.Cond.instanceMethod ({ cls := "java/util/AbstractList$Itr", name := "hasNext", desc := "()Z" } : Jvm.MethodName)) ∈ lw_all := lw_g (lw_at lw_m2 220 rfl) rfl
theorem q524 : (Jvm.Cond.publicMethod ({ cls := "java/util/AbstractList$Itr", name := "hasNext", desc := "()Z" } : Jvm.MethodName)) ∈ lw_tbl := lw_at lw_m2 221 rfl
theorem q525 : (Jvm.Cond.code ({ cls := "java/util/AbstractList$Itr", name := "hasNext", desc := "()Z" } : Jvm.MethodName) prog_37_method_2_code (1 : Nat) (Option.some Jvm.ClassFile.FieldType.boolean)) ∈ lw_all := lw_g (lw_at lw_m2 222 rfl) rfl
theorem q526 : (Jvm.Cond.methodLink "java/util/AbstractList$Itr" (28 : Nat) ({ cls := "java/util/AbstractList", name := "size", desc := "()I" } : Jvm.MethodName)) ∈ lw_all := lw_g (lw_at lw_m2 223 rfl) rfl
theorem q556 : (Jvm.Cond.instanceMethod ({ cls := "java/util/AbstractList$Itr", name := "next", desc := "()Ljava/lang/Object;" } : Jvm.MethodName)) ∈ lw_all := lw_g (lw_at lw_m3 13 rfl) rfl
theorem q557 : (Jvm.Cond.publicMethod ({ cls := "java/util/AbstractList$Itr", name := "next", desc := "()Ljava/lang/Object;" } : Jvm.MethodName)) ∈ lw_tbl := lw_at lw_m3 14 rfl
theorem q558 : (Jvm.Cond.codeWith ({ cls := "java/util/AbstractList$Itr", name := "next", desc := "()Ljava/lang/Object;" } : Jvm.MethodName) prog_37_method_3_code (3 : Nat) (Option.some (Jvm.ClassFile.FieldType.object "java/lang/Object")) [((4 : Nat), (31 : Nat), (32 : Nat), (39 : Nat))]) ∈ lw_all := lw_g (lw_at lw_m3 15 rfl) rfl
theorem q559 : (Jvm.Cond.methodLink "java/util/AbstractList$Itr" (32 : Nat) ({ cls := "java/util/AbstractList$Itr", name := "checkForComodification", desc := "()V" } : Jvm.MethodName)) ∈ lw_all := lw_g (lw_at lw_m3 16 rfl) rfl
theorem q560 : (Jvm.Cond.instanceMethod ({ cls := "java/util/AbstractList$Itr", name := "checkForComodification", desc := "()V" } : Jvm.MethodName)) ∈ lw_all := lw_g (lw_at lw_m3 17 rfl) rfl
theorem q561 : (Jvm.Cond.sameMethod "java/util/AbstractList$Itr" "java/util/AbstractList$Itr" "checkForComodification" "()V") ∈ lw_all := lw_g (lw_at lw_m3 18 rfl) rfl
theorem q563 : (Jvm.Cond.code ({ cls := "java/util/AbstractList$Itr", name := "checkForComodification", desc := "()V" } : Jvm.MethodName) prog_37_method_5_code (1 : Nat) (Option.none : Option Jvm.ClassFile.FieldType)) ∈ lw_all := lw_g (lw_at lw_m3 20 rfl) rfl
theorem q564 : (Jvm.Cond.methodLink "java/util/AbstractList$Itr" (35 : Nat) ({ cls := "java/util/AbstractList", name := "get", desc := "(I)Ljava/lang/Object;" } : Jvm.MethodName)) ∈ lw_all := lw_g (lw_at lw_m3 21 rfl) rfl
theorem q583 : (Jvm.Cond.classLink "java/util/AbstractList$Itr" (41 : Nat) "java/util/NoSuchElementException") ∈ lw_all := lw_g (lw_at lw_m3 40 rfl) rfl
theorem q624 : (Jvm.Cond.methodLink "java/util/AbstractList$Itr" (43 : Nat) ({ cls := "java/util/NoSuchElementException", name := "<init>", desc := "(Ljava/lang/Throwable;)V" } : Jvm.MethodName)) ∈ lw_all := lw_g (lw_at lw_m3 81 rfl) rfl
theorem q2286 : (Jvm.Cond.fieldLink "java/util/AbstractList$Itr" (13 : Nat) "java/util/AbstractList$Itr" "cursor" "I") ∈ lw_all := lw_g (lw_at lw_m10 63 rfl) rfl
theorem q2287 : (Jvm.Cond.fieldLink "java/util/AbstractList$Itr" (1 : Nat) "java/util/AbstractList$Itr" "this$0" "Ljava/util/AbstractList;") ∈ lw_all := lw_g (lw_at lw_m10 64 rfl) rfl
theorem q2288 : (Jvm.Cond.fieldLink "java/util/AbstractList$Itr" (25 : Nat) "java/util/AbstractList$Itr" "expectedModCount" "I") ∈ lw_all := lw_g (lw_at lw_m10 65 rfl) rfl
theorem q2289 : (Jvm.Cond.fieldLink "java/util/AbstractList$Itr" (17 : Nat) "java/util/AbstractList$Itr" "lastRet" "I") ∈ lw_all := lw_g (lw_at lw_m10 66 rfl) rfl

/-! java/util/ArrayList$ListItr -/
set_option maxRecDepth 100000
def RJ23 : String := "java/util/ArrayList$ListItr"
def TJ23 : u_T := fun k => match k with
  | 0 => ("java/util/ArrayList$Itr", "cursor", "I", false)
  | 1 => ("java/util/ArrayList$Itr", "lastRet", "I", false)
  | 2 => ("java/util/ArrayList$Itr", "expectedModCount", "I", false)
  | 3 => ("java/util/ArrayList$Itr", "this$0", "Ljava/util/ArrayList;", true)
  | _ => ("java/util/ArrayList$ListItr", "this$0", "Ljava/util/ArrayList;", true)
def tyJ23 : Nat → FieldType := fun k => match k with
  | 0 => .int
  | 1 => .int
  | 2 => .int
  | 3 => .object "java/util/ArrayList"
  | _ => .object "java/util/ArrayList"
abbrev wsJ230 : List Cond := u_ws RJ23 TJ23 5
-- two fields of one name: no nmJ23
theorem tyJ23_ok : ∀ k, k < 5 → parseFieldDescriptor (TJ23 k).2.2.1 = some (tyJ23 k) := by decide +kernel
abbrev cJ23_init : ByteArray := prog_43_method_1_code
def yJ23_init : MethodName := ⟨RJ23, "<init>", "(Ljava/util/ArrayList;I)V"⟩
def dkwJ23_init_0 : List UInt8 := [42, 43, 181, 0, 1, 42, 43, 183, 0, 7, 42, 28, 181, 0, 13, 177]
abbrev dktJ23_init_0 : List UInt8 := dkwJ23_init_0 ++ []
theorem dksJ23_init_0 : cJ23_init.data.toList.drop 0 = dktJ23_init_0 := by decide +kernel
theorem dJ23_init_0 : decode cJ23_init 0 = .ok (.aload_n 0, 1) := dk_42 (dk_at dksJ23_init_0 0 rfl rfl)
theorem dJ23_init_1 : decode cJ23_init 1 = .ok (.aload_n 1, 1) := dk_43 (dk_at dksJ23_init_0 1 rfl rfl)
theorem dJ23_init_2 : decode cJ23_init 2 = .ok (.putfield 1, 3) := dk_181 0 1 (dk_at dksJ23_init_0 2 rfl rfl)
theorem dJ23_init_5 : decode cJ23_init 5 = .ok (.aload_n 0, 1) := dk_42 (dk_at dksJ23_init_0 5 rfl rfl)
theorem dJ23_init_6 : decode cJ23_init 6 = .ok (.aload_n 1, 1) := dk_43 (dk_at dksJ23_init_0 6 rfl rfl)
theorem dJ23_init_7 : decode cJ23_init 7 = .ok (.invokespecial 7, 3) := dk_183 0 7 (dk_at dksJ23_init_0 7 rfl rfl)
theorem dJ23_init_10 : decode cJ23_init 10 = .ok (.aload_n 0, 1) := dk_42 (dk_at dksJ23_init_0 10 rfl rfl)
theorem dJ23_init_11 : decode cJ23_init 11 = .ok (.iload_n 2, 1) := dk_28 (dk_at dksJ23_init_0 11 rfl rfl)
theorem dJ23_init_12 : decode cJ23_init 12 = .ok (.putfield 13, 3) := dk_181 0 13 (dk_at dksJ23_init_0 12 rfl rfl)
theorem dJ23_init_15 : decode cJ23_init 15 = .ok (.return_, 1) := dk_177 (dk_at dksJ23_init_0 15 rfl rfl)
theorem q94 : (Jvm.Cond.initialized "java/util/ArrayList$ListItr") ∈ lw_all := lw_g (lw_at lw_m1 31 rfl) rfl
theorem q277 : (Jvm.Cond.selects "java/util/ArrayList$ListItr" ({ cls := "java/lang/Object", name := "getClass", desc := "()Ljava/lang/Class;" } : Jvm.MethodName) ({ cls := "java/lang/Object", name := "getClass", desc := "()Ljava/lang/Class;" } : Jvm.MethodName)) ∈ lw_all := lw_g (lw_at lw_m1 214 rfl) rfl
theorem q501 : (Jvm.Cond.fieldLink "java/util/ArrayList$ListItr" (13 : Nat) "java/util/ArrayList$ListItr" "cursor" "I") ∈ lw_all := lw_g (lw_at lw_m2 198 rfl) rfl
theorem q502 : (Jvm.Cond.sameField "java/util/ArrayList$ListItr" "java/util/ArrayList$Itr" "cursor" "I") ∈ lw_all := lw_g (lw_at lw_m2 199 rfl) rfl
theorem q541 : (Jvm.Cond.castable "java/util/ArrayList$ListItr" "java/util/Iterator") ∈ lw_tbl := lw_at lw_m2 238 rfl
theorem q542 : (Jvm.Cond.selects "java/util/ArrayList$ListItr" ({ cls := "java/util/Iterator", name := "hasNext", desc := "()Z" } : Jvm.MethodName) ({ cls := "java/util/ArrayList$Itr", name := "hasNext", desc := "()Z" } : Jvm.MethodName)) ∈ lw_all := lw_g (lw_at lw_m2 239 rfl) rfl
theorem q543 : (Jvm.Cond.unhidden "java/util/ArrayList$ListItr" "hasNext" "()Z") ∈ lw_tbl := lw_at lw_m3 0 rfl
theorem q848 : (Jvm.Cond.selects "java/util/ArrayList$ListItr" ({ cls := "java/util/ArrayList$Itr", name := "checkForComodification", desc := "()V" } : Jvm.MethodName) ({ cls := "java/util/ArrayList$Itr", name := "checkForComodification", desc := "()V" } : Jvm.MethodName)) ∈ lw_all := lw_g (lw_at lw_m4 65 rfl) rfl
theorem q850 : (Jvm.Cond.selects "java/util/ArrayList$ListItr" ({ cls := "java/util/Iterator", name := "next", desc := "()Ljava/lang/Object;" } : Jvm.MethodName) ({ cls := "java/util/ArrayList$Itr", name := "next", desc := "()Ljava/lang/Object;" } : Jvm.MethodName)) ∈ lw_all := lw_g (lw_at lw_m4 67 rfl) rfl
theorem q851 : (Jvm.Cond.unhidden "java/util/ArrayList$ListItr" "next" "()Ljava/lang/Object;") ∈ lw_tbl := lw_at lw_m4 68 rfl
theorem q925 : (Jvm.Cond.instantiable "java/util/ArrayList$ListItr" (5 : Nat)) ∈ lw_all := lw_g (lw_at lw_m4 142 rfl) rfl
theorem q927 : (Jvm.Cond.instanceMethod ({ cls := "java/util/ArrayList$ListItr", name := "<init>", desc := "(Ljava/util/ArrayList;I)V" } : Jvm.MethodName)) ∈ lw_all := lw_g (lw_at lw_m4 144 rfl) rfl
theorem q928 : (Jvm.Cond.code ({ cls := "java/util/ArrayList$ListItr", name := "<init>", desc := "(Ljava/util/ArrayList;I)V" } : Jvm.MethodName) prog_43_method_1_code (3 : Nat) (Option.none : Option Jvm.ClassFile.FieldType)) ∈ lw_all := lw_g (lw_at lw_m4 145 rfl) rfl
theorem q929 : (Jvm.Cond.methodLink "java/util/ArrayList$ListItr" (7 : Nat) ({ cls := "java/util/ArrayList$Itr", name := "<init>", desc := "(Ljava/util/ArrayList;)V" } : Jvm.MethodName)) ∈ lw_all := lw_g (lw_at lw_m4 146 rfl) rfl
theorem q930 : (Jvm.Cond.fieldLink "java/util/ArrayList$ListItr" (1 : Nat) "java/util/ArrayList$ListItr" "this$0" "Ljava/util/ArrayList;") ∈ lw_all := lw_g (lw_at lw_m4 147 rfl) rfl
theorem q931 : (Jvm.Cond.laysFinal "java/util/ArrayList$ListItr" "java/util/ArrayList$ListItr" "this$0" "Ljava/util/ArrayList;") ∈ lw_all := lw_g (lw_at lw_m4 148 rfl) rfl
theorem q932 : (Jvm.Cond.soleField "java/util/ArrayList$ListItr" "this$0") ∈ lw_all := lw_g (lw_at lw_m4 149 rfl) rfl
theorem q933 : (Jvm.Cond.lays "java/util/ArrayList$ListItr" "java/util/ArrayList$Itr" "cursor" "I") ∈ lw_all := lw_g (lw_at lw_m4 150 rfl) rfl
theorem q934 : (Jvm.Cond.lays "java/util/ArrayList$ListItr" "java/util/ArrayList$Itr" "lastRet" "I") ∈ lw_all := lw_g (lw_at lw_m4 151 rfl) rfl
theorem q935 : (Jvm.Cond.lays "java/util/ArrayList$ListItr" "java/util/ArrayList$Itr" "expectedModCount" "I") ∈ lw_all := lw_g (lw_at lw_m4 152 rfl) rfl
theorem q936 : (Jvm.Cond.laysFinal "java/util/ArrayList$ListItr" "java/util/ArrayList$Itr" "this$0" "Ljava/util/ArrayList;") ∈ lw_all := lw_g (lw_at lw_m4 153 rfl) rfl
theorem q937 : (Jvm.Cond.superclass "java/util/ArrayList$ListItr" "java/util/ArrayList$Itr") ∈ lw_all := lw_g (lw_at lw_m4 154 rfl) rfl
theorem q2265 : (Jvm.Cond.castable "java/util/ArrayList$ListItr" "java/lang/Object") ∈ lw_tbl := lw_at lw_m10 42 rfl
theorem in_J23 : ∀ w ∈ wsJ230, w ∈ lw_all := lw_in wsJ230 [933, 934, 935, 936, 931] (by decide +kernel) (by decide +kernel)

/-! java/util/LinkedList$ListItr -/
set_option maxRecDepth 100000
def RJ24 : String := "java/util/LinkedList$ListItr"
def TJ24 : u_T := fun k => match k with
  | 0 => ("java/util/LinkedList$ListItr", "lastReturned", "Ljava/util/LinkedList$Node;", false)
  | 1 => ("java/util/LinkedList$ListItr", "next", "Ljava/util/LinkedList$Node;", false)
  | 2 => ("java/util/LinkedList$ListItr", "nextIndex", "I", false)
  | 3 => ("java/util/LinkedList$ListItr", "expectedModCount", "I", false)
  | _ => ("java/util/LinkedList$ListItr", "this$0", "Ljava/util/LinkedList;", true)
def tyJ24 : Nat → FieldType := fun k => match k with
  | 0 => .object "java/util/LinkedList$Node"
  | 1 => .object "java/util/LinkedList$Node"
  | 2 => .int
  | 3 => .int
  | _ => .object "java/util/LinkedList"
abbrev wsJ240 : List Cond := u_ws RJ24 TJ24 5
theorem nmJ24 : ∀ a, a < 5 → ∀ b, b < 5 → a ≠ b → (TJ24 a).2.1 ≠ (TJ24 b).2.1 := by decide +kernel
theorem tyJ24_ok : ∀ k, k < 5 → parseFieldDescriptor (TJ24 k).2.2.1 = some (tyJ24 k) := by decide +kernel
abbrev cJ24_hasNext : ByteArray := prog_50_method_2_code
def yJ24_hasNext : MethodName := ⟨RJ24, "hasNext", "()Z"⟩
def dkwJ24_hasNext_0 : List UInt8 := [42, 180, 0, 33, 42, 180, 0, 1, 180, 0, 22, 162, 0, 7, 4, 167, 0, 4, 3, 172]
abbrev dktJ24_hasNext_0 : List UInt8 := dkwJ24_hasNext_0 ++ []
theorem dksJ24_hasNext_0 : cJ24_hasNext.data.toList.drop 0 = dktJ24_hasNext_0 := by decide +kernel
theorem dJ24_hasNext_0 : decode cJ24_hasNext 0 = .ok (.aload_n 0, 1) := dk_42 (dk_at dksJ24_hasNext_0 0 rfl rfl)
theorem dJ24_hasNext_1 : decode cJ24_hasNext 1 = .ok (.getfield 33, 3) := dk_180 0 33 (dk_at dksJ24_hasNext_0 1 rfl rfl)
theorem dJ24_hasNext_4 : decode cJ24_hasNext 4 = .ok (.aload_n 0, 1) := dk_42 (dk_at dksJ24_hasNext_0 4 rfl rfl)
theorem dJ24_hasNext_5 : decode cJ24_hasNext 5 = .ok (.getfield 1, 3) := dk_180 0 1 (dk_at dksJ24_hasNext_0 5 rfl rfl)
theorem dJ24_hasNext_8 : decode cJ24_hasNext 8 = .ok (.getfield 22, 3) := dk_180 0 22 (dk_at dksJ24_hasNext_0 8 rfl rfl)
theorem dJ24_hasNext_11 : decode cJ24_hasNext 11 = .ok (.if_icmp .ge 7, 3) := dk_162 0 7 (dk_at dksJ24_hasNext_0 11 rfl rfl)
theorem dJ24_hasNext_14 : decode cJ24_hasNext 14 = .ok (.iconst 1, 1) := dk_4 (dk_at dksJ24_hasNext_0 14 rfl rfl)
theorem dJ24_hasNext_15 : decode cJ24_hasNext 15 = .ok (.goto 4, 3) := dk_167 0 4 (dk_at dksJ24_hasNext_0 15 rfl rfl)
theorem dJ24_hasNext_18 : decode cJ24_hasNext 18 = .ok (.iconst 0, 1) := dk_3 (dk_at dksJ24_hasNext_0 18 rfl rfl)
theorem dJ24_hasNext_19 : decode cJ24_hasNext 19 = .ok (.ireturn, 1) := dk_172 (dk_at dksJ24_hasNext_0 19 rfl rfl)
abbrev cJ24_next : ByteArray := prog_50_method_3_code
def yJ24_next : MethodName := ⟨RJ24, "next", "()Ljava/lang/Object;"⟩
def dkwJ24_next_2 : List UInt8 := [42, 180, 0, 46, 180, 0, 52, 176]
abbrev dktJ24_next_2 : List UInt8 := dkwJ24_next_2 ++ []
def dkwJ24_next_1 : List UInt8 := [181, 0, 46, 42, 42, 180, 0, 29, 180, 0, 49, 181, 0, 29, 42, 89, 180, 0, 33, 4, 96, 181, 0, 33]
abbrev dktJ24_next_1 : List UInt8 := dkwJ24_next_1 ++ dktJ24_next_2
def dkwJ24_next_0 : List UInt8 := [42, 182, 0, 36, 42, 182, 0, 39, 154, 0, 11, 187, 0, 43, 89, 183, 0, 45, 191, 42, 42, 180, 0, 29]
abbrev dktJ24_next_0 : List UInt8 := dkwJ24_next_0 ++ dktJ24_next_1
theorem dksJ24_next_0 : cJ24_next.data.toList.drop 0 = dktJ24_next_0 := by decide +kernel
theorem dksJ24_next_1 : cJ24_next.data.toList.drop 24 = dktJ24_next_1 := dk_seg dksJ24_next_0 24 rfl rfl
theorem dksJ24_next_2 : cJ24_next.data.toList.drop 48 = dktJ24_next_2 := dk_seg dksJ24_next_1 24 rfl rfl
theorem dJ24_next_0 : decode cJ24_next 0 = .ok (.aload_n 0, 1) := dk_42 (dk_at dksJ24_next_0 0 rfl rfl)
theorem dJ24_next_1 : decode cJ24_next 1 = .ok (.invokevirtual 36, 3) := dk_182 0 36 (dk_at dksJ24_next_0 1 rfl rfl)
theorem dJ24_next_4 : decode cJ24_next 4 = .ok (.aload_n 0, 1) := dk_42 (dk_at dksJ24_next_0 4 rfl rfl)
theorem dJ24_next_5 : decode cJ24_next 5 = .ok (.invokevirtual 39, 3) := dk_182 0 39 (dk_at dksJ24_next_0 5 rfl rfl)
theorem dJ24_next_8 : decode cJ24_next 8 = .ok (.ifCond .ne 11, 3) := dk_154 0 11 (dk_at dksJ24_next_0 8 rfl rfl)
theorem dJ24_next_11 : decode cJ24_next 11 = .ok (.new 43, 3) := dk_187 0 43 (dk_at dksJ24_next_0 11 rfl rfl)
theorem dJ24_next_14 : decode cJ24_next 14 = .ok (.dup, 1) := dk_89 (dk_at dksJ24_next_0 14 rfl rfl)
theorem dJ24_next_15 : decode cJ24_next 15 = .ok (.invokespecial 45, 3) := dk_183 0 45 (dk_at dksJ24_next_0 15 rfl rfl)
theorem dJ24_next_18 : decode cJ24_next 18 = .ok (.athrow, 1) := dk_191 (dk_at dksJ24_next_0 18 rfl rfl)
theorem dJ24_next_19 : decode cJ24_next 19 = .ok (.aload_n 0, 1) := dk_42 (dk_at dksJ24_next_0 19 rfl rfl)
theorem dJ24_next_20 : decode cJ24_next 20 = .ok (.aload_n 0, 1) := dk_42 (dk_at dksJ24_next_0 20 rfl rfl)
theorem dJ24_next_21 : decode cJ24_next 21 = .ok (.getfield 29, 3) := dk_180 0 29 (dk_at dksJ24_next_0 21 rfl rfl)
theorem dJ24_next_24 : decode cJ24_next 24 = .ok (.putfield 46, 3) := dk_181 0 46 (dk_at dksJ24_next_1 0 rfl rfl)
theorem dJ24_next_27 : decode cJ24_next 27 = .ok (.aload_n 0, 1) := dk_42 (dk_at dksJ24_next_1 3 rfl rfl)
theorem dJ24_next_28 : decode cJ24_next 28 = .ok (.aload_n 0, 1) := dk_42 (dk_at dksJ24_next_1 4 rfl rfl)
theorem dJ24_next_29 : decode cJ24_next 29 = .ok (.getfield 29, 3) := dk_180 0 29 (dk_at dksJ24_next_1 5 rfl rfl)
theorem dJ24_next_32 : decode cJ24_next 32 = .ok (.getfield 49, 3) := dk_180 0 49 (dk_at dksJ24_next_1 8 rfl rfl)
theorem dJ24_next_35 : decode cJ24_next 35 = .ok (.putfield 29, 3) := dk_181 0 29 (dk_at dksJ24_next_1 11 rfl rfl)
theorem dJ24_next_38 : decode cJ24_next 38 = .ok (.aload_n 0, 1) := dk_42 (dk_at dksJ24_next_1 14 rfl rfl)
theorem dJ24_next_39 : decode cJ24_next 39 = .ok (.dup, 1) := dk_89 (dk_at dksJ24_next_1 15 rfl rfl)
theorem dJ24_next_40 : decode cJ24_next 40 = .ok (.getfield 33, 3) := dk_180 0 33 (dk_at dksJ24_next_1 16 rfl rfl)
theorem dJ24_next_43 : decode cJ24_next 43 = .ok (.iconst 1, 1) := dk_4 (dk_at dksJ24_next_1 19 rfl rfl)
theorem dJ24_next_44 : decode cJ24_next 44 = .ok (.iadd, 1) := dk_96 (dk_at dksJ24_next_1 20 rfl rfl)
theorem dJ24_next_45 : decode cJ24_next 45 = .ok (.putfield 33, 3) := dk_181 0 33 (dk_at dksJ24_next_1 21 rfl rfl)
theorem dJ24_next_48 : decode cJ24_next 48 = .ok (.aload_n 0, 1) := dk_42 (dk_at dksJ24_next_2 0 rfl rfl)
theorem dJ24_next_49 : decode cJ24_next 49 = .ok (.getfield 46, 3) := dk_180 0 46 (dk_at dksJ24_next_2 1 rfl rfl)
theorem dJ24_next_52 : decode cJ24_next 52 = .ok (.getfield 52, 3) := dk_180 0 52 (dk_at dksJ24_next_2 4 rfl rfl)
theorem dJ24_next_55 : decode cJ24_next 55 = .ok (.areturn, 1) := dk_176 (dk_at dksJ24_next_2 7 rfl rfl)
abbrev cJ24_checkForComodification : ByteArray := prog_50_method_12_code
def yJ24_checkForComodification : MethodName := ⟨RJ24, "checkForComodification", "()V"⟩
def dkwJ24_checkForComodification_0 : List UInt8 := [42, 180, 0, 1, 180, 0, 13, 42, 180, 0, 19, 159, 0, 11, 187, 0, 91, 89, 183, 0, 93, 191, 177]
abbrev dktJ24_checkForComodification_0 : List UInt8 := dkwJ24_checkForComodification_0 ++ []
theorem dksJ24_checkForComodification_0 : cJ24_checkForComodification.data.toList.drop 0 = dktJ24_checkForComodification_0 := by decide +kernel
theorem dJ24_checkForComodification_0 : decode cJ24_checkForComodification 0 = .ok (.aload_n 0, 1) := dk_42 (dk_at dksJ24_checkForComodification_0 0 rfl rfl)
theorem dJ24_checkForComodification_1 : decode cJ24_checkForComodification 1 = .ok (.getfield 1, 3) := dk_180 0 1 (dk_at dksJ24_checkForComodification_0 1 rfl rfl)
theorem dJ24_checkForComodification_4 : decode cJ24_checkForComodification 4 = .ok (.getfield 13, 3) := dk_180 0 13 (dk_at dksJ24_checkForComodification_0 4 rfl rfl)
theorem dJ24_checkForComodification_7 : decode cJ24_checkForComodification 7 = .ok (.aload_n 0, 1) := dk_42 (dk_at dksJ24_checkForComodification_0 7 rfl rfl)
theorem dJ24_checkForComodification_8 : decode cJ24_checkForComodification 8 = .ok (.getfield 19, 3) := dk_180 0 19 (dk_at dksJ24_checkForComodification_0 8 rfl rfl)
theorem dJ24_checkForComodification_11 : decode cJ24_checkForComodification 11 = .ok (.if_icmp .eq 11, 3) := dk_159 0 11 (dk_at dksJ24_checkForComodification_0 11 rfl rfl)
theorem dJ24_checkForComodification_14 : decode cJ24_checkForComodification 14 = .ok (.new 91, 3) := dk_187 0 91 (dk_at dksJ24_checkForComodification_0 14 rfl rfl)
theorem dJ24_checkForComodification_17 : decode cJ24_checkForComodification 17 = .ok (.dup, 1) := dk_89 (dk_at dksJ24_checkForComodification_0 17 rfl rfl)
theorem dJ24_checkForComodification_18 : decode cJ24_checkForComodification 18 = .ok (.invokespecial 93, 3) := dk_183 0 93 (dk_at dksJ24_checkForComodification_0 18 rfl rfl)
theorem dJ24_checkForComodification_21 : decode cJ24_checkForComodification 21 = .ok (.athrow, 1) := dk_191 (dk_at dksJ24_checkForComodification_0 21 rfl rfl)
theorem dJ24_checkForComodification_22 : decode cJ24_checkForComodification 22 = .ok (.return_, 1) := dk_177 (dk_at dksJ24_checkForComodification_0 22 rfl rfl)
abbrev cJ24_init : ByteArray := prog_50_method_1_code
def yJ24_init : MethodName := ⟨RJ24, "<init>", "(Ljava/util/LinkedList;I)V"⟩
def dkwJ24_init_1 : List UInt8 := [180, 0, 22, 160, 0, 7, 1, 167, 0, 8, 43, 28, 182, 0, 25, 181, 0, 29, 42, 28, 181, 0, 33, 177]
abbrev dktJ24_init_1 : List UInt8 := dkwJ24_init_1 ++ []
def dkwJ24_init_0 : List UInt8 := [42, 43, 181, 0, 1, 42, 183, 0, 7, 42, 42, 180, 0, 1, 180, 0, 13, 181, 0, 19, 42, 28, 43]
abbrev dktJ24_init_0 : List UInt8 := dkwJ24_init_0 ++ dktJ24_init_1
theorem dksJ24_init_0 : cJ24_init.data.toList.drop 0 = dktJ24_init_0 := by decide +kernel
theorem dksJ24_init_1 : cJ24_init.data.toList.drop 23 = dktJ24_init_1 := dk_seg dksJ24_init_0 23 rfl rfl
theorem dJ24_init_0 : decode cJ24_init 0 = .ok (.aload_n 0, 1) := dk_42 (dk_at dksJ24_init_0 0 rfl rfl)
theorem dJ24_init_1 : decode cJ24_init 1 = .ok (.aload_n 1, 1) := dk_43 (dk_at dksJ24_init_0 1 rfl rfl)
theorem dJ24_init_2 : decode cJ24_init 2 = .ok (.putfield 1, 3) := dk_181 0 1 (dk_at dksJ24_init_0 2 rfl rfl)
theorem dJ24_init_5 : decode cJ24_init 5 = .ok (.aload_n 0, 1) := dk_42 (dk_at dksJ24_init_0 5 rfl rfl)
theorem dJ24_init_6 : decode cJ24_init 6 = .ok (.invokespecial 7, 3) := dk_183 0 7 (dk_at dksJ24_init_0 6 rfl rfl)
theorem dJ24_init_9 : decode cJ24_init 9 = .ok (.aload_n 0, 1) := dk_42 (dk_at dksJ24_init_0 9 rfl rfl)
theorem dJ24_init_10 : decode cJ24_init 10 = .ok (.aload_n 0, 1) := dk_42 (dk_at dksJ24_init_0 10 rfl rfl)
theorem dJ24_init_11 : decode cJ24_init 11 = .ok (.getfield 1, 3) := dk_180 0 1 (dk_at dksJ24_init_0 11 rfl rfl)
theorem dJ24_init_14 : decode cJ24_init 14 = .ok (.getfield 13, 3) := dk_180 0 13 (dk_at dksJ24_init_0 14 rfl rfl)
theorem dJ24_init_17 : decode cJ24_init 17 = .ok (.putfield 19, 3) := dk_181 0 19 (dk_at dksJ24_init_0 17 rfl rfl)
theorem dJ24_init_20 : decode cJ24_init 20 = .ok (.aload_n 0, 1) := dk_42 (dk_at dksJ24_init_0 20 rfl rfl)
theorem dJ24_init_21 : decode cJ24_init 21 = .ok (.iload_n 2, 1) := dk_28 (dk_at dksJ24_init_0 21 rfl rfl)
theorem dJ24_init_22 : decode cJ24_init 22 = .ok (.aload_n 1, 1) := dk_43 (dk_at dksJ24_init_0 22 rfl rfl)
theorem dJ24_init_23 : decode cJ24_init 23 = .ok (.getfield 22, 3) := dk_180 0 22 (dk_at dksJ24_init_1 0 rfl rfl)
theorem dJ24_init_26 : decode cJ24_init 26 = .ok (.if_icmp .ne 7, 3) := dk_160 0 7 (dk_at dksJ24_init_1 3 rfl rfl)
theorem dJ24_init_29 : decode cJ24_init 29 = .ok (.aconst_null, 1) := dk_1 (dk_at dksJ24_init_1 6 rfl rfl)
theorem dJ24_init_30 : decode cJ24_init 30 = .ok (.goto 8, 3) := dk_167 0 8 (dk_at dksJ24_init_1 7 rfl rfl)
theorem dJ24_init_33 : decode cJ24_init 33 = .ok (.aload_n 1, 1) := dk_43 (dk_at dksJ24_init_1 10 rfl rfl)
theorem dJ24_init_34 : decode cJ24_init 34 = .ok (.iload_n 2, 1) := dk_28 (dk_at dksJ24_init_1 11 rfl rfl)
theorem dJ24_init_35 : decode cJ24_init 35 = .ok (.invokevirtual 25, 3) := dk_182 0 25 (dk_at dksJ24_init_1 12 rfl rfl)
theorem dJ24_init_38 : decode cJ24_init 38 = .ok (.putfield 29, 3) := dk_181 0 29 (dk_at dksJ24_init_1 15 rfl rfl)
theorem dJ24_init_41 : decode cJ24_init 41 = .ok (.aload_n 0, 1) := dk_42 (dk_at dksJ24_init_1 18 rfl rfl)
theorem dJ24_init_42 : decode cJ24_init 42 = .ok (.iload_n 2, 1) := dk_28 (dk_at dksJ24_init_1 19 rfl rfl)
theorem dJ24_init_43 : decode cJ24_init 43 = .ok (.putfield 33, 3) := dk_181 0 33 (dk_at dksJ24_init_1 20 rfl rfl)
theorem dJ24_init_46 : decode cJ24_init 46 = .ok (.return_, 1) := dk_177 (dk_at dksJ24_init_1 23 rfl rfl)
theorem q95 : (Jvm.Cond.initialized "java/util/LinkedList$ListItr") ∈ lw_all := lw_g (lw_at lw_m1 32 rfl) rfl
theorem q141 : (Jvm.Cond.fieldLink "java/util/LinkedList$ListItr" (13 : Nat) "java/util/LinkedList" "modCount" "I") ∈ lw_all := lw_g (lw_at lw_m1 78 rfl) rfl
theorem q165 : (Jvm.Cond.fieldLink "java/util/LinkedList$ListItr" (22 : Nat) "java/util/LinkedList" "size" "I") ∈ lw_all := lw_g (lw_at lw_m1 102 rfl) rfl
theorem q280 : (Jvm.Cond.selects "java/util/LinkedList$ListItr" ({ cls := "java/lang/Object", name := "getClass", desc := "()Ljava/lang/Class;" } : Jvm.MethodName) ({ cls := "java/lang/Object", name := "getClass", desc := "()Ljava/lang/Class;" } : Jvm.MethodName)) ∈ lw_all := lw_g (lw_at lw_m1 217 rfl) rfl
theorem q544 : (Jvm.Cond.castable "java/util/LinkedList$ListItr" "java/util/Iterator") ∈ lw_tbl := lw_at lw_m3 1 rfl
theorem q545 : (Jvm.Cond.selects "java/util/LinkedList$ListItr" ({ cls := "java/util/Iterator", name := "hasNext", desc := "()Z" } : Jvm.MethodName) ({ cls := "java/util/LinkedList$ListItr", name := "hasNext", desc := "()Z" } : Jvm.MethodName)) ∈ lw_all := lw_g (lw_at lw_m3 2 rfl) rfl
theorem q546 : (Jvm.Cond.unhidden "java/util/LinkedList$ListItr" "hasNext" "()Z") ∈ lw_tbl := lw_at lw_m3 3 rfl
theorem q547 : (Jvm.Cond.instanceMethod ({ cls := "java/util/LinkedList$ListItr", name := "hasNext", desc := "()Z" } : Jvm.MethodName)) ∈ lw_all := lw_g (lw_at lw_m3 4 rfl) rfl
theorem q548 : (Jvm.Cond.publicMethod ({ cls := "java/util/LinkedList$ListItr", name := "hasNext", desc := "()Z" } : Jvm.MethodName)) ∈ lw_tbl := lw_at lw_m3 5 rfl
theorem q549 : (Jvm.Cond.code ({ cls := "java/util/LinkedList$ListItr", name := "hasNext", desc := "()Z" } : Jvm.MethodName) prog_50_method_2_code (1 : Nat) (Option.some Jvm.ClassFile.FieldType.boolean)) ∈ lw_all := lw_g (lw_at lw_m3 6 rfl) rfl
theorem q852 : (Jvm.Cond.selects "java/util/LinkedList$ListItr" ({ cls := "java/util/Iterator", name := "next", desc := "()Ljava/lang/Object;" } : Jvm.MethodName) ({ cls := "java/util/LinkedList$ListItr", name := "next", desc := "()Ljava/lang/Object;" } : Jvm.MethodName)) ∈ lw_all := lw_g (lw_at lw_m4 69 rfl) rfl
theorem q853 : (Jvm.Cond.unhidden "java/util/LinkedList$ListItr" "next" "()Ljava/lang/Object;") ∈ lw_tbl := lw_at lw_m4 70 rfl
theorem q854 : (Jvm.Cond.instanceMethod ({ cls := "java/util/LinkedList$ListItr", name := "next", desc := "()Ljava/lang/Object;" } : Jvm.MethodName)) ∈ lw_all := lw_g (lw_at lw_m4 71 rfl) rfl
theorem q855 : (Jvm.Cond.publicMethod ({ cls := "java/util/LinkedList$ListItr", name := "next", desc := "()Ljava/lang/Object;" } : Jvm.MethodName)) ∈ lw_tbl := lw_at lw_m4 72 rfl
theorem q856 : (Jvm.Cond.code ({ cls := "java/util/LinkedList$ListItr", name := "next", desc := "()Ljava/lang/Object;" } : Jvm.MethodName) prog_50_method_3_code (1 : Nat) (Option.some (Jvm.ClassFile.FieldType.object "java/lang/Object"))) ∈ lw_all := lw_g (lw_at lw_m4 73 rfl) rfl
theorem q857 : (Jvm.Cond.methodLink "java/util/LinkedList$ListItr" (36 : Nat) ({ cls := "java/util/LinkedList$ListItr", name := "checkForComodification", desc := "()V" } : Jvm.MethodName)) ∈ lw_all := lw_g (lw_at lw_m4 74 rfl) rfl
theorem q858 : (Jvm.Cond.instanceMethod ({ cls := "java/util/LinkedList$ListItr", name := "checkForComodification", desc := "()V" } : Jvm.MethodName)) ∈ lw_all := lw_g (lw_at lw_m4 75 rfl) rfl
theorem q859 : (Jvm.Cond.selects "java/util/LinkedList$ListItr" ({ cls := "java/util/LinkedList$ListItr", name := "checkForComodification", desc := "()V" } : Jvm.MethodName) ({ cls := "java/util/LinkedList$ListItr", name := "checkForComodification", desc := "()V" } : Jvm.MethodName)) ∈ lw_all := lw_g (lw_at lw_m4 76 rfl) rfl
theorem q860 : (Jvm.Cond.code ({ cls := "java/util/LinkedList$ListItr", name := "checkForComodification", desc := "()V" } : Jvm.MethodName) prog_50_method_12_code (1 : Nat) (Option.none : Option Jvm.ClassFile.FieldType)) ∈ lw_all := lw_g (lw_at lw_m4 77 rfl) rfl
theorem q861 : (Jvm.Cond.methodLink "java/util/LinkedList$ListItr" (39 : Nat) ({ cls := "java/util/LinkedList$ListItr", name := "hasNext", desc := "()Z" } : Jvm.MethodName)) ∈ lw_all := lw_g (lw_at lw_m4 78 rfl) rfl
theorem q950 : (Jvm.Cond.instantiable "java/util/LinkedList$ListItr" (5 : Nat)) ∈ lw_all := lw_g (lw_at lw_m4 167 rfl) rfl
theorem q952 : (Jvm.Cond.instanceMethod ({ cls := "java/util/LinkedList$ListItr", name := "<init>", desc := "(Ljava/util/LinkedList;I)V" } : Jvm.MethodName)) ∈ lw_all := lw_g (lw_at lw_m4 169 rfl) rfl
theorem q953 : (Jvm.Cond.code ({ cls := "java/util/LinkedList$ListItr", name := "<init>", desc := "(Ljava/util/LinkedList;I)V" } : Jvm.MethodName) prog_50_method_1_code (3 : Nat) (Option.none : Option Jvm.ClassFile.FieldType)) ∈ lw_all := lw_g (lw_at lw_m4 170 rfl) rfl
theorem q954 : (Jvm.Cond.methodLink "java/util/LinkedList$ListItr" (7 : Nat) ({ cls := "java/lang/Object", name := "<init>", desc := "()V" } : Jvm.MethodName)) ∈ lw_all := lw_g (lw_at lw_m4 171 rfl) rfl
theorem q955 : (Jvm.Cond.methodLink "java/util/LinkedList$ListItr" (25 : Nat) ({ cls := "java/util/LinkedList", name := "node", desc := "(I)Ljava/util/LinkedList$Node;" } : Jvm.MethodName)) ∈ lw_all := lw_g (lw_at lw_m4 172 rfl) rfl
theorem q956 : (Jvm.Cond.fieldLink "java/util/LinkedList$ListItr" (46 : Nat) "java/util/LinkedList$ListItr" "lastReturned" "Ljava/util/LinkedList$Node;") ∈ lw_all := lw_g (lw_at lw_m4 173 rfl) rfl
theorem q957 : (Jvm.Cond.fieldLink "java/util/LinkedList$ListItr" (29 : Nat) "java/util/LinkedList$ListItr" "next" "Ljava/util/LinkedList$Node;") ∈ lw_all := lw_g (lw_at lw_m4 174 rfl) rfl
theorem q958 : (Jvm.Cond.fieldLink "java/util/LinkedList$ListItr" (33 : Nat) "java/util/LinkedList$ListItr" "nextIndex" "I") ∈ lw_all := lw_g (lw_at lw_m4 175 rfl) rfl
theorem q959 : (Jvm.Cond.fieldLink "java/util/LinkedList$ListItr" (19 : Nat) "java/util/LinkedList$ListItr" "expectedModCount" "I") ∈ lw_all := lw_g (lw_at lw_m4 176 rfl) rfl
theorem q960 : (Jvm.Cond.fieldLink "java/util/LinkedList$ListItr" (1 : Nat) "java/util/LinkedList$ListItr" "this$0" "Ljava/util/LinkedList;") ∈ lw_all := lw_g (lw_at lw_m4 177 rfl) rfl
theorem q961 : (Jvm.Cond.lays "java/util/LinkedList$ListItr" "java/util/LinkedList$ListItr" "lastReturned" "Ljava/util/LinkedList$Node;") ∈ lw_all := lw_g (lw_at lw_m4 178 rfl) rfl
theorem q962 : (Jvm.Cond.soleField "java/util/LinkedList$ListItr" "lastReturned") ∈ lw_all := lw_g (lw_at lw_m4 179 rfl) rfl
theorem q963 : (Jvm.Cond.lays "java/util/LinkedList$ListItr" "java/util/LinkedList$ListItr" "next" "Ljava/util/LinkedList$Node;") ∈ lw_all := lw_g (lw_at lw_m4 180 rfl) rfl
theorem q964 : (Jvm.Cond.soleField "java/util/LinkedList$ListItr" "next") ∈ lw_all := lw_g (lw_at lw_m4 181 rfl) rfl
theorem q965 : (Jvm.Cond.lays "java/util/LinkedList$ListItr" "java/util/LinkedList$ListItr" "nextIndex" "I") ∈ lw_all := lw_g (lw_at lw_m4 182 rfl) rfl
theorem q966 : (Jvm.Cond.soleField "java/util/LinkedList$ListItr" "nextIndex") ∈ lw_all := lw_g (lw_at lw_m4 183 rfl) rfl
theorem q967 : (Jvm.Cond.lays "java/util/LinkedList$ListItr" "java/util/LinkedList$ListItr" "expectedModCount" "I") ∈ lw_all := lw_g (lw_at lw_m4 184 rfl) rfl
theorem q968 : (Jvm.Cond.soleField "java/util/LinkedList$ListItr" "expectedModCount") ∈ lw_all := lw_g (lw_at lw_m4 185 rfl) rfl
theorem q969 : (Jvm.Cond.laysFinal "java/util/LinkedList$ListItr" "java/util/LinkedList$ListItr" "this$0" "Ljava/util/LinkedList;") ∈ lw_all := lw_g (lw_at lw_m4 186 rfl) rfl
theorem q970 : (Jvm.Cond.soleField "java/util/LinkedList$ListItr" "this$0") ∈ lw_all := lw_g (lw_at lw_m4 187 rfl) rfl
theorem q971 : (Jvm.Cond.superclass "java/util/LinkedList$ListItr" "java/lang/Object") ∈ lw_all := lw_g (lw_at lw_m4 188 rfl) rfl
theorem q1027 : (Jvm.Cond.fieldLink "java/util/LinkedList$ListItr" (52 : Nat) "java/util/LinkedList$Node" "item" "Ljava/lang/Object;") ∈ lw_all := lw_g (lw_at lw_m5 4 rfl) rfl
theorem q1030 : (Jvm.Cond.fieldLink "java/util/LinkedList$ListItr" (49 : Nat) "java/util/LinkedList$Node" "next" "Ljava/util/LinkedList$Node;") ∈ lw_all := lw_g (lw_at lw_m5 7 rfl) rfl
theorem q2241 : (Jvm.Cond.selects "java/util/LinkedList$ListItr" ({ cls := "java/util/LinkedList$ListItr", name := "hasNext", desc := "()Z" } : Jvm.MethodName) ({ cls := "java/util/LinkedList$ListItr", name := "hasNext", desc := "()Z" } : Jvm.MethodName)) ∈ lw_all := lw_g (lw_at lw_m10 18 rfl) rfl
theorem q2266 : (Jvm.Cond.castable "java/util/LinkedList$ListItr" "java/lang/Object") ∈ lw_tbl := lw_at lw_m10 43 rfl
theorem in_J24 : ∀ w ∈ wsJ240, w ∈ lw_all := lw_in wsJ240 [961, 963, 965, 967, 969] (by decide +kernel) (by decide +kernel)

/-! java/util/LinkedList$Node -/
set_option maxRecDepth 100000
def RJ25 : String := "java/util/LinkedList$Node"
def TJ25 : u_T := fun k => match k with
  | 0 => ("java/util/LinkedList$Node", "item", "Ljava/lang/Object;", false)
  | 1 => ("java/util/LinkedList$Node", "next", "Ljava/util/LinkedList$Node;", false)
  | _ => ("java/util/LinkedList$Node", "prev", "Ljava/util/LinkedList$Node;", false)
def tyJ25 : Nat → FieldType := fun k => match k with
  | 0 => .object "java/lang/Object"
  | 1 => .object "java/util/LinkedList$Node"
  | _ => .object "java/util/LinkedList$Node"
abbrev wsJ250 : List Cond := u_ws RJ25 TJ25 3
theorem nmJ25 : ∀ a, a < 3 → ∀ b, b < 3 → a ≠ b → (TJ25 a).2.1 ≠ (TJ25 b).2.1 := by decide +kernel
theorem tyJ25_ok : ∀ k, k < 3 → parseFieldDescriptor (TJ25 k).2.2.1 = some (tyJ25 k) := by decide +kernel
abbrev cJ25_init : ByteArray := prog_51_method_1_code
def yJ25_init : MethodName := ⟨RJ25, "<init>", "(Ljava/util/LinkedList$Node;Ljava/lang/Object;Ljava/util/LinkedList$Node;)V"⟩
def dkwJ25_init_0 : List UInt8 := [42, 183, 0, 1, 42, 44, 181, 0, 7, 42, 45, 181, 0, 13, 42, 43, 181, 0, 17, 177]
abbrev dktJ25_init_0 : List UInt8 := dkwJ25_init_0 ++ []
theorem dksJ25_init_0 : cJ25_init.data.toList.drop 0 = dktJ25_init_0 := by decide +kernel
theorem dJ25_init_0 : decode cJ25_init 0 = .ok (.aload_n 0, 1) := dk_42 (dk_at dksJ25_init_0 0 rfl rfl)
theorem dJ25_init_1 : decode cJ25_init 1 = .ok (.invokespecial 1, 3) := dk_183 0 1 (dk_at dksJ25_init_0 1 rfl rfl)
theorem dJ25_init_4 : decode cJ25_init 4 = .ok (.aload_n 0, 1) := dk_42 (dk_at dksJ25_init_0 4 rfl rfl)
theorem dJ25_init_5 : decode cJ25_init 5 = .ok (.aload_n 2, 1) := dk_44 (dk_at dksJ25_init_0 5 rfl rfl)
theorem dJ25_init_6 : decode cJ25_init 6 = .ok (.putfield 7, 3) := dk_181 0 7 (dk_at dksJ25_init_0 6 rfl rfl)
theorem dJ25_init_9 : decode cJ25_init 9 = .ok (.aload_n 0, 1) := dk_42 (dk_at dksJ25_init_0 9 rfl rfl)
theorem dJ25_init_10 : decode cJ25_init 10 = .ok (.aload_n 3, 1) := dk_45 (dk_at dksJ25_init_0 10 rfl rfl)
theorem dJ25_init_11 : decode cJ25_init 11 = .ok (.putfield 13, 3) := dk_181 0 13 (dk_at dksJ25_init_0 11 rfl rfl)
theorem dJ25_init_14 : decode cJ25_init 14 = .ok (.aload_n 0, 1) := dk_42 (dk_at dksJ25_init_0 14 rfl rfl)
theorem dJ25_init_15 : decode cJ25_init 15 = .ok (.aload_n 1, 1) := dk_43 (dk_at dksJ25_init_0 15 rfl rfl)
theorem dJ25_init_16 : decode cJ25_init 16 = .ok (.putfield 17, 3) := dk_181 0 17 (dk_at dksJ25_init_0 16 rfl rfl)
theorem dJ25_init_19 : decode cJ25_init 19 = .ok (.return_, 1) := dk_177 (dk_at dksJ25_init_0 19 rfl rfl)
theorem q97 : (Jvm.Cond.initialized "java/util/LinkedList$Node") ∈ lw_all := lw_g (lw_at lw_m1 34 rfl) rfl
theorem q281 : (Jvm.Cond.selects "java/util/LinkedList$Node" ({ cls := "java/lang/Object", name := "getClass", desc := "()Ljava/lang/Class;" } : Jvm.MethodName) ({ cls := "java/lang/Object", name := "getClass", desc := "()Ljava/lang/Class;" } : Jvm.MethodName)) ∈ lw_all := lw_g (lw_at lw_m1 218 rfl) rfl
theorem q1021 : (Jvm.Cond.instantiable "java/util/LinkedList$Node" (3 : Nat)) ∈ lw_all := lw_g (lw_at lw_m4 238 rfl) rfl
theorem q1023 : (Jvm.Cond.instanceMethod ({ cls := "java/util/LinkedList$Node", name := "<init>", desc := "(Ljava/util/LinkedList$Node;Ljava/lang/Object;Ljava/util/LinkedList$Node;)V" } : Jvm.MethodName)) ∈ lw_all := lw_g (lw_at lw_m5 0 rfl) rfl
theorem q1024 : (Jvm.Cond.code ({ cls := "java/util/LinkedList$Node", name := "<init>", desc := "(Ljava/util/LinkedList$Node;Ljava/lang/Object;Ljava/util/LinkedList$Node;)V" } : Jvm.MethodName) prog_51_method_1_code (4 : Nat) (Option.none : Option Jvm.ClassFile.FieldType)) ∈ lw_all := lw_g (lw_at lw_m5 1 rfl) rfl
theorem q1025 : (Jvm.Cond.methodLink "java/util/LinkedList$Node" (1 : Nat) ({ cls := "java/lang/Object", name := "<init>", desc := "()V" } : Jvm.MethodName)) ∈ lw_all := lw_g (lw_at lw_m5 2 rfl) rfl
theorem q1026 : (Jvm.Cond.fieldLink "java/util/LinkedList$Node" (7 : Nat) "java/util/LinkedList$Node" "item" "Ljava/lang/Object;") ∈ lw_all := lw_g (lw_at lw_m5 3 rfl) rfl
theorem q1029 : (Jvm.Cond.fieldLink "java/util/LinkedList$Node" (13 : Nat) "java/util/LinkedList$Node" "next" "Ljava/util/LinkedList$Node;") ∈ lw_all := lw_g (lw_at lw_m5 6 rfl) rfl
theorem q1032 : (Jvm.Cond.fieldLink "java/util/LinkedList$Node" (17 : Nat) "java/util/LinkedList$Node" "prev" "Ljava/util/LinkedList$Node;") ∈ lw_all := lw_g (lw_at lw_m5 9 rfl) rfl
theorem q1034 : (Jvm.Cond.lays "java/util/LinkedList$Node" "java/util/LinkedList$Node" "item" "Ljava/lang/Object;") ∈ lw_all := lw_g (lw_at lw_m5 11 rfl) rfl
theorem q1035 : (Jvm.Cond.soleField "java/util/LinkedList$Node" "item") ∈ lw_all := lw_g (lw_at lw_m5 12 rfl) rfl
theorem q1036 : (Jvm.Cond.lays "java/util/LinkedList$Node" "java/util/LinkedList$Node" "next" "Ljava/util/LinkedList$Node;") ∈ lw_all := lw_g (lw_at lw_m5 13 rfl) rfl
theorem q1037 : (Jvm.Cond.soleField "java/util/LinkedList$Node" "next") ∈ lw_all := lw_g (lw_at lw_m5 14 rfl) rfl
theorem q1038 : (Jvm.Cond.lays "java/util/LinkedList$Node" "java/util/LinkedList$Node" "prev" "Ljava/util/LinkedList$Node;") ∈ lw_all := lw_g (lw_at lw_m5 15 rfl) rfl
theorem q1039 : (Jvm.Cond.soleField "java/util/LinkedList$Node" "prev") ∈ lw_all := lw_g (lw_at lw_m5 16 rfl) rfl
theorem q1040 : (Jvm.Cond.superclass "java/util/LinkedList$Node" "java/lang/Object") ∈ lw_all := lw_g (lw_at lw_m5 17 rfl) rfl
theorem q2269 : (Jvm.Cond.castable "java/util/LinkedList$Node" "java/lang/Object") ∈ lw_tbl := lw_at lw_m10 46 rfl
theorem in_J25 : ∀ w ∈ wsJ250, w ∈ lw_all := lw_in wsJ250 [1034, 1036, 1038] (by decide +kernel) (by decide +kernel)

/-! java/lang/Long -/
set_option maxRecDepth 100000
def RJ26 : String := "java/lang/Long"
abbrev cJ26_numberOfTrailingZeros : ByteArray := prog_22_method_49_code
def yJ26_numberOfTrailingZeros : MethodName := ⟨RJ26, "numberOfTrailingZeros", "(J)I"⟩
def dkwJ26_numberOfTrailingZeros_1 : List UInt8 := [184, 1, 55, 172]
abbrev dktJ26_numberOfTrailingZeros_1 : List UInt8 := dkwJ26_numberOfTrailingZeros_1 ++ []
def dkwJ26_numberOfTrailingZeros_0 : List UInt8 := [30, 136, 61, 28, 154, 0, 17, 16, 32, 30, 16, 32, 125, 136, 184, 1, 55, 96, 167, 0, 7, 28]
abbrev dktJ26_numberOfTrailingZeros_0 : List UInt8 := dkwJ26_numberOfTrailingZeros_0 ++ dktJ26_numberOfTrailingZeros_1
theorem dksJ26_numberOfTrailingZeros_0 : cJ26_numberOfTrailingZeros.data.toList.drop 0 = dktJ26_numberOfTrailingZeros_0 := by decide +kernel
theorem dksJ26_numberOfTrailingZeros_1 : cJ26_numberOfTrailingZeros.data.toList.drop 22 = dktJ26_numberOfTrailingZeros_1 := dk_seg dksJ26_numberOfTrailingZeros_0 22 rfl rfl
theorem dJ26_numberOfTrailingZeros_0 : decode cJ26_numberOfTrailingZeros 0 = .ok (.lload_n 0, 1) := dk_30 (dk_at dksJ26_numberOfTrailingZeros_0 0 rfl rfl)
theorem dJ26_numberOfTrailingZeros_1 : decode cJ26_numberOfTrailingZeros 1 = .ok (.l2i, 1) := dk_136 (dk_at dksJ26_numberOfTrailingZeros_0 1 rfl rfl)
theorem dJ26_numberOfTrailingZeros_2 : decode cJ26_numberOfTrailingZeros 2 = .ok (.istore_n 2, 1) := dk_61 (dk_at dksJ26_numberOfTrailingZeros_0 2 rfl rfl)
theorem dJ26_numberOfTrailingZeros_3 : decode cJ26_numberOfTrailingZeros 3 = .ok (.iload_n 2, 1) := dk_28 (dk_at dksJ26_numberOfTrailingZeros_0 3 rfl rfl)
theorem dJ26_numberOfTrailingZeros_4 : decode cJ26_numberOfTrailingZeros 4 = .ok (.ifCond .ne 17, 3) := dk_154 0 17 (dk_at dksJ26_numberOfTrailingZeros_0 4 rfl rfl)
theorem dJ26_numberOfTrailingZeros_7 : decode cJ26_numberOfTrailingZeros 7 = .ok (.bipush 32, 2) := dk_16 32 (dk_at dksJ26_numberOfTrailingZeros_0 7 rfl rfl)
theorem dJ26_numberOfTrailingZeros_9 : decode cJ26_numberOfTrailingZeros 9 = .ok (.lload_n 0, 1) := dk_30 (dk_at dksJ26_numberOfTrailingZeros_0 9 rfl rfl)
theorem dJ26_numberOfTrailingZeros_10 : decode cJ26_numberOfTrailingZeros 10 = .ok (.bipush 32, 2) := dk_16 32 (dk_at dksJ26_numberOfTrailingZeros_0 10 rfl rfl)
theorem dJ26_numberOfTrailingZeros_12 : decode cJ26_numberOfTrailingZeros 12 = .ok (.lushr, 1) := dk_125 (dk_at dksJ26_numberOfTrailingZeros_0 12 rfl rfl)
theorem dJ26_numberOfTrailingZeros_13 : decode cJ26_numberOfTrailingZeros 13 = .ok (.l2i, 1) := dk_136 (dk_at dksJ26_numberOfTrailingZeros_0 13 rfl rfl)
theorem dJ26_numberOfTrailingZeros_14 : decode cJ26_numberOfTrailingZeros 14 = .ok (.invokestatic 311, 3) := dk_184 1 55 (dk_at dksJ26_numberOfTrailingZeros_0 14 rfl rfl)
theorem dJ26_numberOfTrailingZeros_17 : decode cJ26_numberOfTrailingZeros 17 = .ok (.iadd, 1) := dk_96 (dk_at dksJ26_numberOfTrailingZeros_0 17 rfl rfl)
theorem dJ26_numberOfTrailingZeros_18 : decode cJ26_numberOfTrailingZeros 18 = .ok (.goto 7, 3) := dk_167 0 7 (dk_at dksJ26_numberOfTrailingZeros_0 18 rfl rfl)
theorem dJ26_numberOfTrailingZeros_21 : decode cJ26_numberOfTrailingZeros 21 = .ok (.iload_n 2, 1) := dk_28 (dk_at dksJ26_numberOfTrailingZeros_0 21 rfl rfl)
theorem dJ26_numberOfTrailingZeros_22 : decode cJ26_numberOfTrailingZeros 22 = .ok (.invokestatic 311, 3) := dk_184 1 55 (dk_at dksJ26_numberOfTrailingZeros_1 0 rfl rfl)
theorem dJ26_numberOfTrailingZeros_25 : decode cJ26_numberOfTrailingZeros 25 = .ok (.ireturn, 1) := dk_172 (dk_at dksJ26_numberOfTrailingZeros_1 3 rfl rfl)
theorem q100 : (Jvm.Cond.initialized "java/lang/Long") ∈ lw_all := lw_g (lw_at lw_m1 37 rfl) rfl
theorem q1240 : (Jvm.Cond.static ({ cls := "java/lang/Long", name := "numberOfTrailingZeros", desc := "(J)I" } : Jvm.MethodName)) ∈ lw_all := lw_g (lw_at lw_m5 217 rfl) rfl
theorem q1241 : (Jvm.Cond.code ({ cls := "java/lang/Long", name := "numberOfTrailingZeros", desc := "(J)I" } : Jvm.MethodName) prog_22_method_49_code (3 : Nat) (Option.some Jvm.ClassFile.FieldType.int)) ∈ lw_all := lw_g (lw_at lw_m5 218 rfl) rfl
theorem q1242 : (Jvm.Cond.methodLink "java/lang/Long" (311 : Nat) ({ cls := "java/lang/Integer", name := "numberOfTrailingZeros", desc := "(I)I" } : Jvm.MethodName)) ∈ lw_all := lw_g (lw_at lw_m5 219 rfl) rfl

/-! java/lang/Integer -/
set_option maxRecDepth 100000
def RJ27 : String := "java/lang/Integer"
abbrev cJ27_numberOfTrailingZeros : ByteArray := prog_20_method_48_code
def yJ27_numberOfTrailingZeros : MethodName := ⟨RJ27, "numberOfTrailingZeros", "(I)I"⟩
def dkwJ27_numberOfTrailingZeros_3 : List UInt8 := [5, 124, 59, 27, 26, 4, 124, 96, 172]
abbrev dktJ27_numberOfTrailingZeros_3 : List UInt8 := dkwJ27_numberOfTrailingZeros_3 ++ []
def dkwJ27_numberOfTrailingZeros_2 : List UInt8 := [124, 59, 26, 16, 16, 164, 0, 10, 132, 1, 4, 26, 7, 124, 59, 26, 7, 164, 0, 10, 132, 1, 2, 26]
abbrev dktJ27_numberOfTrailingZeros_2 : List UInt8 := dkwJ27_numberOfTrailingZeros_2 ++ dktJ27_numberOfTrailingZeros_3
def dkwJ27_numberOfTrailingZeros_1 : List UInt8 := [164, 0, 11, 132, 1, 16, 26, 16, 16, 124, 59, 26, 17, 1, 0, 164, 0, 11, 132, 1, 8, 26, 16, 8]
abbrev dktJ27_numberOfTrailingZeros_1 : List UInt8 := dkwJ27_numberOfTrailingZeros_1 ++ dktJ27_numberOfTrailingZeros_2
def dkwJ27_numberOfTrailingZeros_0 : List UInt8 := [26, 2, 130, 26, 4, 100, 126, 59, 26, 157, 0, 8, 26, 16, 32, 126, 172, 4, 60, 26, 19, 1, 8]
abbrev dktJ27_numberOfTrailingZeros_0 : List UInt8 := dkwJ27_numberOfTrailingZeros_0 ++ dktJ27_numberOfTrailingZeros_1
theorem dksJ27_numberOfTrailingZeros_0 : cJ27_numberOfTrailingZeros.data.toList.drop 0 = dktJ27_numberOfTrailingZeros_0 := by decide +kernel
theorem dksJ27_numberOfTrailingZeros_1 : cJ27_numberOfTrailingZeros.data.toList.drop 23 = dktJ27_numberOfTrailingZeros_1 := dk_seg dksJ27_numberOfTrailingZeros_0 23 rfl rfl
theorem dksJ27_numberOfTrailingZeros_2 : cJ27_numberOfTrailingZeros.data.toList.drop 47 = dktJ27_numberOfTrailingZeros_2 := dk_seg dksJ27_numberOfTrailingZeros_1 24 rfl rfl
theorem dksJ27_numberOfTrailingZeros_3 : cJ27_numberOfTrailingZeros.data.toList.drop 71 = dktJ27_numberOfTrailingZeros_3 := dk_seg dksJ27_numberOfTrailingZeros_2 24 rfl rfl
theorem dJ27_numberOfTrailingZeros_0 : decode cJ27_numberOfTrailingZeros 0 = .ok (.iload_n 0, 1) := dk_26 (dk_at dksJ27_numberOfTrailingZeros_0 0 rfl rfl)
theorem dJ27_numberOfTrailingZeros_1 : decode cJ27_numberOfTrailingZeros 1 = .ok (.iconst (-1), 1) := dk_2 (dk_at dksJ27_numberOfTrailingZeros_0 1 rfl rfl)
theorem dJ27_numberOfTrailingZeros_2 : decode cJ27_numberOfTrailingZeros 2 = .ok (.ixor, 1) := dk_130 (dk_at dksJ27_numberOfTrailingZeros_0 2 rfl rfl)
theorem dJ27_numberOfTrailingZeros_3 : decode cJ27_numberOfTrailingZeros 3 = .ok (.iload_n 0, 1) := dk_26 (dk_at dksJ27_numberOfTrailingZeros_0 3 rfl rfl)
theorem dJ27_numberOfTrailingZeros_4 : decode cJ27_numberOfTrailingZeros 4 = .ok (.iconst 1, 1) := dk_4 (dk_at dksJ27_numberOfTrailingZeros_0 4 rfl rfl)
theorem dJ27_numberOfTrailingZeros_5 : decode cJ27_numberOfTrailingZeros 5 = .ok (.isub, 1) := dk_100 (dk_at dksJ27_numberOfTrailingZeros_0 5 rfl rfl)
theorem dJ27_numberOfTrailingZeros_6 : decode cJ27_numberOfTrailingZeros 6 = .ok (.iand, 1) := dk_126 (dk_at dksJ27_numberOfTrailingZeros_0 6 rfl rfl)
theorem dJ27_numberOfTrailingZeros_7 : decode cJ27_numberOfTrailingZeros 7 = .ok (.istore_n 0, 1) := dk_59 (dk_at dksJ27_numberOfTrailingZeros_0 7 rfl rfl)
theorem dJ27_numberOfTrailingZeros_8 : decode cJ27_numberOfTrailingZeros 8 = .ok (.iload_n 0, 1) := dk_26 (dk_at dksJ27_numberOfTrailingZeros_0 8 rfl rfl)
theorem dJ27_numberOfTrailingZeros_9 : decode cJ27_numberOfTrailingZeros 9 = .ok (.ifCond .gt 8, 3) := dk_157 0 8 (dk_at dksJ27_numberOfTrailingZeros_0 9 rfl rfl)
theorem dJ27_numberOfTrailingZeros_12 : decode cJ27_numberOfTrailingZeros 12 = .ok (.iload_n 0, 1) := dk_26 (dk_at dksJ27_numberOfTrailingZeros_0 12 rfl rfl)
theorem dJ27_numberOfTrailingZeros_13 : decode cJ27_numberOfTrailingZeros 13 = .ok (.bipush 32, 2) := dk_16 32 (dk_at dksJ27_numberOfTrailingZeros_0 13 rfl rfl)
theorem dJ27_numberOfTrailingZeros_15 : decode cJ27_numberOfTrailingZeros 15 = .ok (.iand, 1) := dk_126 (dk_at dksJ27_numberOfTrailingZeros_0 15 rfl rfl)
theorem dJ27_numberOfTrailingZeros_16 : decode cJ27_numberOfTrailingZeros 16 = .ok (.ireturn, 1) := dk_172 (dk_at dksJ27_numberOfTrailingZeros_0 16 rfl rfl)
theorem dJ27_numberOfTrailingZeros_17 : decode cJ27_numberOfTrailingZeros 17 = .ok (.iconst 1, 1) := dk_4 (dk_at dksJ27_numberOfTrailingZeros_0 17 rfl rfl)
theorem dJ27_numberOfTrailingZeros_18 : decode cJ27_numberOfTrailingZeros 18 = .ok (.istore_n 1, 1) := dk_60 (dk_at dksJ27_numberOfTrailingZeros_0 18 rfl rfl)
theorem dJ27_numberOfTrailingZeros_19 : decode cJ27_numberOfTrailingZeros 19 = .ok (.iload_n 0, 1) := dk_26 (dk_at dksJ27_numberOfTrailingZeros_0 19 rfl rfl)
theorem dJ27_numberOfTrailingZeros_20 : decode cJ27_numberOfTrailingZeros 20 = .ok (.ldc_w 264, 3) := dk_19 1 8 (dk_at dksJ27_numberOfTrailingZeros_0 20 rfl rfl)
theorem dJ27_numberOfTrailingZeros_23 : decode cJ27_numberOfTrailingZeros 23 = .ok (.if_icmp .le 11, 3) := dk_164 0 11 (dk_at dksJ27_numberOfTrailingZeros_1 0 rfl rfl)
theorem dJ27_numberOfTrailingZeros_26 : decode cJ27_numberOfTrailingZeros 26 = .ok (.iinc 1 16, 3) := dk_132 1 16 (dk_at dksJ27_numberOfTrailingZeros_1 3 rfl rfl)
theorem dJ27_numberOfTrailingZeros_29 : decode cJ27_numberOfTrailingZeros 29 = .ok (.iload_n 0, 1) := dk_26 (dk_at dksJ27_numberOfTrailingZeros_1 6 rfl rfl)
theorem dJ27_numberOfTrailingZeros_30 : decode cJ27_numberOfTrailingZeros 30 = .ok (.bipush 16, 2) := dk_16 16 (dk_at dksJ27_numberOfTrailingZeros_1 7 rfl rfl)
theorem dJ27_numberOfTrailingZeros_32 : decode cJ27_numberOfTrailingZeros 32 = .ok (.iushr, 1) := dk_124 (dk_at dksJ27_numberOfTrailingZeros_1 9 rfl rfl)
theorem dJ27_numberOfTrailingZeros_33 : decode cJ27_numberOfTrailingZeros 33 = .ok (.istore_n 0, 1) := dk_59 (dk_at dksJ27_numberOfTrailingZeros_1 10 rfl rfl)
theorem dJ27_numberOfTrailingZeros_34 : decode cJ27_numberOfTrailingZeros 34 = .ok (.iload_n 0, 1) := dk_26 (dk_at dksJ27_numberOfTrailingZeros_1 11 rfl rfl)
theorem dJ27_numberOfTrailingZeros_35 : decode cJ27_numberOfTrailingZeros 35 = .ok (.sipush 256, 3) := dk_17 1 0 (dk_at dksJ27_numberOfTrailingZeros_1 12 rfl rfl)
theorem dJ27_numberOfTrailingZeros_38 : decode cJ27_numberOfTrailingZeros 38 = .ok (.if_icmp .le 11, 3) := dk_164 0 11 (dk_at dksJ27_numberOfTrailingZeros_1 15 rfl rfl)
theorem dJ27_numberOfTrailingZeros_41 : decode cJ27_numberOfTrailingZeros 41 = .ok (.iinc 1 8, 3) := dk_132 1 8 (dk_at dksJ27_numberOfTrailingZeros_1 18 rfl rfl)
theorem dJ27_numberOfTrailingZeros_44 : decode cJ27_numberOfTrailingZeros 44 = .ok (.iload_n 0, 1) := dk_26 (dk_at dksJ27_numberOfTrailingZeros_1 21 rfl rfl)
theorem dJ27_numberOfTrailingZeros_45 : decode cJ27_numberOfTrailingZeros 45 = .ok (.bipush 8, 2) := dk_16 8 (dk_at dksJ27_numberOfTrailingZeros_1 22 rfl rfl)
theorem dJ27_numberOfTrailingZeros_47 : decode cJ27_numberOfTrailingZeros 47 = .ok (.iushr, 1) := dk_124 (dk_at dksJ27_numberOfTrailingZeros_2 0 rfl rfl)
theorem dJ27_numberOfTrailingZeros_48 : decode cJ27_numberOfTrailingZeros 48 = .ok (.istore_n 0, 1) := dk_59 (dk_at dksJ27_numberOfTrailingZeros_2 1 rfl rfl)
theorem dJ27_numberOfTrailingZeros_49 : decode cJ27_numberOfTrailingZeros 49 = .ok (.iload_n 0, 1) := dk_26 (dk_at dksJ27_numberOfTrailingZeros_2 2 rfl rfl)
theorem dJ27_numberOfTrailingZeros_50 : decode cJ27_numberOfTrailingZeros 50 = .ok (.bipush 16, 2) := dk_16 16 (dk_at dksJ27_numberOfTrailingZeros_2 3 rfl rfl)
theorem dJ27_numberOfTrailingZeros_52 : decode cJ27_numberOfTrailingZeros 52 = .ok (.if_icmp .le 10, 3) := dk_164 0 10 (dk_at dksJ27_numberOfTrailingZeros_2 5 rfl rfl)
theorem dJ27_numberOfTrailingZeros_55 : decode cJ27_numberOfTrailingZeros 55 = .ok (.iinc 1 4, 3) := dk_132 1 4 (dk_at dksJ27_numberOfTrailingZeros_2 8 rfl rfl)
theorem dJ27_numberOfTrailingZeros_58 : decode cJ27_numberOfTrailingZeros 58 = .ok (.iload_n 0, 1) := dk_26 (dk_at dksJ27_numberOfTrailingZeros_2 11 rfl rfl)
theorem dJ27_numberOfTrailingZeros_59 : decode cJ27_numberOfTrailingZeros 59 = .ok (.iconst 4, 1) := dk_7 (dk_at dksJ27_numberOfTrailingZeros_2 12 rfl rfl)
theorem dJ27_numberOfTrailingZeros_60 : decode cJ27_numberOfTrailingZeros 60 = .ok (.iushr, 1) := dk_124 (dk_at dksJ27_numberOfTrailingZeros_2 13 rfl rfl)
theorem dJ27_numberOfTrailingZeros_61 : decode cJ27_numberOfTrailingZeros 61 = .ok (.istore_n 0, 1) := dk_59 (dk_at dksJ27_numberOfTrailingZeros_2 14 rfl rfl)
theorem dJ27_numberOfTrailingZeros_62 : decode cJ27_numberOfTrailingZeros 62 = .ok (.iload_n 0, 1) := dk_26 (dk_at dksJ27_numberOfTrailingZeros_2 15 rfl rfl)
theorem dJ27_numberOfTrailingZeros_63 : decode cJ27_numberOfTrailingZeros 63 = .ok (.iconst 4, 1) := dk_7 (dk_at dksJ27_numberOfTrailingZeros_2 16 rfl rfl)
theorem dJ27_numberOfTrailingZeros_64 : decode cJ27_numberOfTrailingZeros 64 = .ok (.if_icmp .le 10, 3) := dk_164 0 10 (dk_at dksJ27_numberOfTrailingZeros_2 17 rfl rfl)
theorem dJ27_numberOfTrailingZeros_67 : decode cJ27_numberOfTrailingZeros 67 = .ok (.iinc 1 2, 3) := dk_132 1 2 (dk_at dksJ27_numberOfTrailingZeros_2 20 rfl rfl)
theorem dJ27_numberOfTrailingZeros_70 : decode cJ27_numberOfTrailingZeros 70 = .ok (.iload_n 0, 1) := dk_26 (dk_at dksJ27_numberOfTrailingZeros_2 23 rfl rfl)
theorem dJ27_numberOfTrailingZeros_71 : decode cJ27_numberOfTrailingZeros 71 = .ok (.iconst 2, 1) := dk_5 (dk_at dksJ27_numberOfTrailingZeros_3 0 rfl rfl)
theorem dJ27_numberOfTrailingZeros_72 : decode cJ27_numberOfTrailingZeros 72 = .ok (.iushr, 1) := dk_124 (dk_at dksJ27_numberOfTrailingZeros_3 1 rfl rfl)
theorem dJ27_numberOfTrailingZeros_73 : decode cJ27_numberOfTrailingZeros 73 = .ok (.istore_n 0, 1) := dk_59 (dk_at dksJ27_numberOfTrailingZeros_3 2 rfl rfl)
theorem dJ27_numberOfTrailingZeros_74 : decode cJ27_numberOfTrailingZeros 74 = .ok (.iload_n 1, 1) := dk_27 (dk_at dksJ27_numberOfTrailingZeros_3 3 rfl rfl)
theorem dJ27_numberOfTrailingZeros_75 : decode cJ27_numberOfTrailingZeros 75 = .ok (.iload_n 0, 1) := dk_26 (dk_at dksJ27_numberOfTrailingZeros_3 4 rfl rfl)
theorem dJ27_numberOfTrailingZeros_76 : decode cJ27_numberOfTrailingZeros 76 = .ok (.iconst 1, 1) := dk_4 (dk_at dksJ27_numberOfTrailingZeros_3 5 rfl rfl)
theorem dJ27_numberOfTrailingZeros_77 : decode cJ27_numberOfTrailingZeros 77 = .ok (.iushr, 1) := dk_124 (dk_at dksJ27_numberOfTrailingZeros_3 6 rfl rfl)
theorem dJ27_numberOfTrailingZeros_78 : decode cJ27_numberOfTrailingZeros 78 = .ok (.iadd, 1) := dk_96 (dk_at dksJ27_numberOfTrailingZeros_3 7 rfl rfl)
theorem dJ27_numberOfTrailingZeros_79 : decode cJ27_numberOfTrailingZeros 79 = .ok (.ireturn, 1) := dk_172 (dk_at dksJ27_numberOfTrailingZeros_3 8 rfl rfl)
abbrev cJ27_stringSize : ByteArray := prog_20_method_13_code
def yJ27_stringSize : MethodName := ⟨RJ27, "stringSize", "(I)I"⟩
def dkwJ27_stringSize_1 : List UInt8 := [164, 0, 7, 29, 27, 96, 172, 16, 10, 28, 104, 61, 132, 3, 1, 167, 255, 233, 16, 10, 27, 96, 172]
abbrev dktJ27_stringSize_1 : List UInt8 := dkwJ27_stringSize_1 ++ []
def dkwJ27_stringSize_0 : List UInt8 := [4, 60, 26, 155, 0, 8, 3, 60, 26, 116, 59, 16, 246, 61, 4, 62, 29, 16, 10, 162, 0, 23, 26, 28]
abbrev dktJ27_stringSize_0 : List UInt8 := dkwJ27_stringSize_0 ++ dktJ27_stringSize_1
theorem dksJ27_stringSize_0 : cJ27_stringSize.data.toList.drop 0 = dktJ27_stringSize_0 := by decide +kernel
theorem dksJ27_stringSize_1 : cJ27_stringSize.data.toList.drop 24 = dktJ27_stringSize_1 := dk_seg dksJ27_stringSize_0 24 rfl rfl
theorem dJ27_stringSize_0 : decode cJ27_stringSize 0 = .ok (.iconst 1, 1) := dk_4 (dk_at dksJ27_stringSize_0 0 rfl rfl)
theorem dJ27_stringSize_1 : decode cJ27_stringSize 1 = .ok (.istore_n 1, 1) := dk_60 (dk_at dksJ27_stringSize_0 1 rfl rfl)
theorem dJ27_stringSize_2 : decode cJ27_stringSize 2 = .ok (.iload_n 0, 1) := dk_26 (dk_at dksJ27_stringSize_0 2 rfl rfl)
theorem dJ27_stringSize_3 : decode cJ27_stringSize 3 = .ok (.ifCond .lt 8, 3) := dk_155 0 8 (dk_at dksJ27_stringSize_0 3 rfl rfl)
theorem dJ27_stringSize_6 : decode cJ27_stringSize 6 = .ok (.iconst 0, 1) := dk_3 (dk_at dksJ27_stringSize_0 6 rfl rfl)
theorem dJ27_stringSize_7 : decode cJ27_stringSize 7 = .ok (.istore_n 1, 1) := dk_60 (dk_at dksJ27_stringSize_0 7 rfl rfl)
theorem dJ27_stringSize_8 : decode cJ27_stringSize 8 = .ok (.iload_n 0, 1) := dk_26 (dk_at dksJ27_stringSize_0 8 rfl rfl)
theorem dJ27_stringSize_9 : decode cJ27_stringSize 9 = .ok (.ineg, 1) := dk_116 (dk_at dksJ27_stringSize_0 9 rfl rfl)
theorem dJ27_stringSize_10 : decode cJ27_stringSize 10 = .ok (.istore_n 0, 1) := dk_59 (dk_at dksJ27_stringSize_0 10 rfl rfl)
theorem dJ27_stringSize_11 : decode cJ27_stringSize 11 = .ok (.bipush (-10), 2) := dk_16 246 (dk_at dksJ27_stringSize_0 11 rfl rfl)
theorem dJ27_stringSize_13 : decode cJ27_stringSize 13 = .ok (.istore_n 2, 1) := dk_61 (dk_at dksJ27_stringSize_0 13 rfl rfl)
theorem dJ27_stringSize_14 : decode cJ27_stringSize 14 = .ok (.iconst 1, 1) := dk_4 (dk_at dksJ27_stringSize_0 14 rfl rfl)
theorem dJ27_stringSize_15 : decode cJ27_stringSize 15 = .ok (.istore_n 3, 1) := dk_62 (dk_at dksJ27_stringSize_0 15 rfl rfl)
theorem dJ27_stringSize_16 : decode cJ27_stringSize 16 = .ok (.iload_n 3, 1) := dk_29 (dk_at dksJ27_stringSize_0 16 rfl rfl)
theorem dJ27_stringSize_17 : decode cJ27_stringSize 17 = .ok (.bipush 10, 2) := dk_16 10 (dk_at dksJ27_stringSize_0 17 rfl rfl)
theorem dJ27_stringSize_19 : decode cJ27_stringSize 19 = .ok (.if_icmp .ge 23, 3) := dk_162 0 23 (dk_at dksJ27_stringSize_0 19 rfl rfl)
theorem dJ27_stringSize_22 : decode cJ27_stringSize 22 = .ok (.iload_n 0, 1) := dk_26 (dk_at dksJ27_stringSize_0 22 rfl rfl)
theorem dJ27_stringSize_23 : decode cJ27_stringSize 23 = .ok (.iload_n 2, 1) := dk_28 (dk_at dksJ27_stringSize_0 23 rfl rfl)
theorem dJ27_stringSize_24 : decode cJ27_stringSize 24 = .ok (.if_icmp .le 7, 3) := dk_164 0 7 (dk_at dksJ27_stringSize_1 0 rfl rfl)
theorem dJ27_stringSize_27 : decode cJ27_stringSize 27 = .ok (.iload_n 3, 1) := dk_29 (dk_at dksJ27_stringSize_1 3 rfl rfl)
theorem dJ27_stringSize_28 : decode cJ27_stringSize 28 = .ok (.iload_n 1, 1) := dk_27 (dk_at dksJ27_stringSize_1 4 rfl rfl)
theorem dJ27_stringSize_29 : decode cJ27_stringSize 29 = .ok (.iadd, 1) := dk_96 (dk_at dksJ27_stringSize_1 5 rfl rfl)
theorem dJ27_stringSize_30 : decode cJ27_stringSize 30 = .ok (.ireturn, 1) := dk_172 (dk_at dksJ27_stringSize_1 6 rfl rfl)
theorem dJ27_stringSize_31 : decode cJ27_stringSize 31 = .ok (.bipush 10, 2) := dk_16 10 (dk_at dksJ27_stringSize_1 7 rfl rfl)
theorem dJ27_stringSize_33 : decode cJ27_stringSize 33 = .ok (.iload_n 2, 1) := dk_28 (dk_at dksJ27_stringSize_1 9 rfl rfl)
theorem dJ27_stringSize_34 : decode cJ27_stringSize 34 = .ok (.imul, 1) := dk_104 (dk_at dksJ27_stringSize_1 10 rfl rfl)
theorem dJ27_stringSize_35 : decode cJ27_stringSize 35 = .ok (.istore_n 2, 1) := dk_61 (dk_at dksJ27_stringSize_1 11 rfl rfl)
theorem dJ27_stringSize_36 : decode cJ27_stringSize 36 = .ok (.iinc 3 1, 3) := dk_132 3 1 (dk_at dksJ27_stringSize_1 12 rfl rfl)
theorem dJ27_stringSize_39 : decode cJ27_stringSize 39 = .ok (.goto (-23), 3) := dk_167 255 233 (dk_at dksJ27_stringSize_1 15 rfl rfl)
theorem dJ27_stringSize_42 : decode cJ27_stringSize 42 = .ok (.bipush 10, 2) := dk_16 10 (dk_at dksJ27_stringSize_1 18 rfl rfl)
theorem dJ27_stringSize_44 : decode cJ27_stringSize 44 = .ok (.iload_n 1, 1) := dk_27 (dk_at dksJ27_stringSize_1 20 rfl rfl)
theorem dJ27_stringSize_45 : decode cJ27_stringSize 45 = .ok (.iadd, 1) := dk_96 (dk_at dksJ27_stringSize_1 21 rfl rfl)
theorem dJ27_stringSize_46 : decode cJ27_stringSize 46 = .ok (.ireturn, 1) := dk_172 (dk_at dksJ27_stringSize_1 22 rfl rfl)
abbrev cJ27_getChars : ByteArray := prog_20_method_12_code
def yJ27_getChars : MethodName := ⟨RJ27, "getChars", "(II[B)I"⟩
def dkwJ27_getChars_5 : List UInt8 := [16, 45, 84, 21, 5, 172]
abbrev dktJ27_getChars_5 : List UInt8 := dkwJ27_getChars_5 ++ []
def dkwJ27_getChars_4 : List UInt8 := [132, 5, 255, 21, 5, 178, 0, 87, 26, 116, 51, 84, 21, 6, 153, 0, 12, 44, 132, 5, 255, 21, 5]
abbrev dktJ27_getChars_4 : List UInt8 := dkwJ27_getChars_4 ++ dktJ27_getChars_5
def dkwJ27_getChars_3 : List UInt8 := [167, 255, 209, 44, 132, 5, 255, 21, 5, 178, 0, 83, 26, 116, 51, 84, 26, 16, 247, 162, 0, 16, 44]
abbrev dktJ27_getChars_3 : List UInt8 := dkwJ27_getChars_3 ++ dktJ27_getChars_4
def dkwJ27_getChars_2 : List UInt8 := [21, 5, 178, 0, 83, 21, 4, 51, 84, 44, 132, 5, 255, 21, 5, 178, 0, 87, 21, 4, 51, 84]
abbrev dktJ27_getChars_2 : List UInt8 := dkwJ27_getChars_2 ++ dktJ27_getChars_3
def dkwJ27_getChars_1 : List UInt8 := [16, 156, 163, 0, 47, 26, 16, 100, 108, 62, 29, 16, 100, 104, 26, 100, 54, 4, 29, 59, 44, 132, 5, 255]
abbrev dktJ27_getChars_1 : List UInt8 := dkwJ27_getChars_1 ++ dktJ27_getChars_2
def dkwJ27_getChars_0 : List UInt8 := [27, 54, 5, 26, 156, 0, 7, 4, 167, 0, 4, 3, 54, 6, 21, 6, 154, 0, 6, 26, 116, 59, 26]
abbrev dktJ27_getChars_0 : List UInt8 := dkwJ27_getChars_0 ++ dktJ27_getChars_1
theorem dksJ27_getChars_0 : cJ27_getChars.data.toList.drop 0 = dktJ27_getChars_0 := by decide +kernel
theorem dksJ27_getChars_1 : cJ27_getChars.data.toList.drop 23 = dktJ27_getChars_1 := dk_seg dksJ27_getChars_0 23 rfl rfl
theorem dksJ27_getChars_2 : cJ27_getChars.data.toList.drop 47 = dktJ27_getChars_2 := dk_seg dksJ27_getChars_1 24 rfl rfl
theorem dksJ27_getChars_3 : cJ27_getChars.data.toList.drop 69 = dktJ27_getChars_3 := dk_seg dksJ27_getChars_2 22 rfl rfl
theorem dksJ27_getChars_4 : cJ27_getChars.data.toList.drop 92 = dktJ27_getChars_4 := dk_seg dksJ27_getChars_3 23 rfl rfl
theorem dksJ27_getChars_5 : cJ27_getChars.data.toList.drop 115 = dktJ27_getChars_5 := dk_seg dksJ27_getChars_4 23 rfl rfl
theorem dJ27_getChars_0 : decode cJ27_getChars 0 = .ok (.iload_n 1, 1) := dk_27 (dk_at dksJ27_getChars_0 0 rfl rfl)
theorem dJ27_getChars_1 : decode cJ27_getChars 1 = .ok (.istore 5, 2) := dk_54 5 (dk_at dksJ27_getChars_0 1 rfl rfl)
theorem dJ27_getChars_3 : decode cJ27_getChars 3 = .ok (.iload_n 0, 1) := dk_26 (dk_at dksJ27_getChars_0 3 rfl rfl)
theorem dJ27_getChars_4 : decode cJ27_getChars 4 = .ok (.ifCond .ge 7, 3) := dk_156 0 7 (dk_at dksJ27_getChars_0 4 rfl rfl)
theorem dJ27_getChars_7 : decode cJ27_getChars 7 = .ok (.iconst 1, 1) := dk_4 (dk_at dksJ27_getChars_0 7 rfl rfl)
theorem dJ27_getChars_8 : decode cJ27_getChars 8 = .ok (.goto 4, 3) := dk_167 0 4 (dk_at dksJ27_getChars_0 8 rfl rfl)
theorem dJ27_getChars_11 : decode cJ27_getChars 11 = .ok (.iconst 0, 1) := dk_3 (dk_at dksJ27_getChars_0 11 rfl rfl)
theorem dJ27_getChars_12 : decode cJ27_getChars 12 = .ok (.istore 6, 2) := dk_54 6 (dk_at dksJ27_getChars_0 12 rfl rfl)
theorem dJ27_getChars_14 : decode cJ27_getChars 14 = .ok (.iload 6, 2) := dk_21 6 (dk_at dksJ27_getChars_0 14 rfl rfl)
theorem dJ27_getChars_16 : decode cJ27_getChars 16 = .ok (.ifCond .ne 6, 3) := dk_154 0 6 (dk_at dksJ27_getChars_0 16 rfl rfl)
theorem dJ27_getChars_19 : decode cJ27_getChars 19 = .ok (.iload_n 0, 1) := dk_26 (dk_at dksJ27_getChars_0 19 rfl rfl)
theorem dJ27_getChars_20 : decode cJ27_getChars 20 = .ok (.ineg, 1) := dk_116 (dk_at dksJ27_getChars_0 20 rfl rfl)
theorem dJ27_getChars_21 : decode cJ27_getChars 21 = .ok (.istore_n 0, 1) := dk_59 (dk_at dksJ27_getChars_0 21 rfl rfl)
theorem dJ27_getChars_22 : decode cJ27_getChars 22 = .ok (.iload_n 0, 1) := dk_26 (dk_at dksJ27_getChars_0 22 rfl rfl)
theorem dJ27_getChars_23 : decode cJ27_getChars 23 = .ok (.bipush (-100), 2) := dk_16 156 (dk_at dksJ27_getChars_1 0 rfl rfl)
theorem dJ27_getChars_25 : decode cJ27_getChars 25 = .ok (.if_icmp .gt 47, 3) := dk_163 0 47 (dk_at dksJ27_getChars_1 2 rfl rfl)
theorem dJ27_getChars_28 : decode cJ27_getChars 28 = .ok (.iload_n 0, 1) := dk_26 (dk_at dksJ27_getChars_1 5 rfl rfl)
theorem dJ27_getChars_29 : decode cJ27_getChars 29 = .ok (.bipush 100, 2) := dk_16 100 (dk_at dksJ27_getChars_1 6 rfl rfl)
theorem dJ27_getChars_31 : decode cJ27_getChars 31 = .ok (.idiv, 1) := dk_108 (dk_at dksJ27_getChars_1 8 rfl rfl)
theorem dJ27_getChars_32 : decode cJ27_getChars 32 = .ok (.istore_n 3, 1) := dk_62 (dk_at dksJ27_getChars_1 9 rfl rfl)
theorem dJ27_getChars_33 : decode cJ27_getChars 33 = .ok (.iload_n 3, 1) := dk_29 (dk_at dksJ27_getChars_1 10 rfl rfl)
theorem dJ27_getChars_34 : decode cJ27_getChars 34 = .ok (.bipush 100, 2) := dk_16 100 (dk_at dksJ27_getChars_1 11 rfl rfl)
theorem dJ27_getChars_36 : decode cJ27_getChars 36 = .ok (.imul, 1) := dk_104 (dk_at dksJ27_getChars_1 13 rfl rfl)
theorem dJ27_getChars_37 : decode cJ27_getChars 37 = .ok (.iload_n 0, 1) := dk_26 (dk_at dksJ27_getChars_1 14 rfl rfl)
theorem dJ27_getChars_38 : decode cJ27_getChars 38 = .ok (.isub, 1) := dk_100 (dk_at dksJ27_getChars_1 15 rfl rfl)
theorem dJ27_getChars_39 : decode cJ27_getChars 39 = .ok (.istore 4, 2) := dk_54 4 (dk_at dksJ27_getChars_1 16 rfl rfl)
theorem dJ27_getChars_41 : decode cJ27_getChars 41 = .ok (.iload_n 3, 1) := dk_29 (dk_at dksJ27_getChars_1 18 rfl rfl)
theorem dJ27_getChars_42 : decode cJ27_getChars 42 = .ok (.istore_n 0, 1) := dk_59 (dk_at dksJ27_getChars_1 19 rfl rfl)
theorem dJ27_getChars_43 : decode cJ27_getChars 43 = .ok (.aload_n 2, 1) := dk_44 (dk_at dksJ27_getChars_1 20 rfl rfl)
theorem dJ27_getChars_44 : decode cJ27_getChars 44 = .ok (.iinc 5 (-1), 3) := dk_132 5 255 (dk_at dksJ27_getChars_1 21 rfl rfl)
theorem dJ27_getChars_47 : decode cJ27_getChars 47 = .ok (.iload 5, 2) := dk_21 5 (dk_at dksJ27_getChars_2 0 rfl rfl)
theorem dJ27_getChars_49 : decode cJ27_getChars 49 = .ok (.getstatic 83, 3) := dk_178 0 83 (dk_at dksJ27_getChars_2 2 rfl rfl)
theorem dJ27_getChars_52 : decode cJ27_getChars 52 = .ok (.iload 4, 2) := dk_21 4 (dk_at dksJ27_getChars_2 5 rfl rfl)
theorem dJ27_getChars_54 : decode cJ27_getChars 54 = .ok (.baload, 1) := dk_51 (dk_at dksJ27_getChars_2 7 rfl rfl)
theorem dJ27_getChars_55 : decode cJ27_getChars 55 = .ok (.bastore, 1) := dk_84 (dk_at dksJ27_getChars_2 8 rfl rfl)
theorem dJ27_getChars_56 : decode cJ27_getChars 56 = .ok (.aload_n 2, 1) := dk_44 (dk_at dksJ27_getChars_2 9 rfl rfl)
theorem dJ27_getChars_57 : decode cJ27_getChars 57 = .ok (.iinc 5 (-1), 3) := dk_132 5 255 (dk_at dksJ27_getChars_2 10 rfl rfl)
theorem dJ27_getChars_60 : decode cJ27_getChars 60 = .ok (.iload 5, 2) := dk_21 5 (dk_at dksJ27_getChars_2 13 rfl rfl)
theorem dJ27_getChars_62 : decode cJ27_getChars 62 = .ok (.getstatic 87, 3) := dk_178 0 87 (dk_at dksJ27_getChars_2 15 rfl rfl)
theorem dJ27_getChars_65 : decode cJ27_getChars 65 = .ok (.iload 4, 2) := dk_21 4 (dk_at dksJ27_getChars_2 18 rfl rfl)
theorem dJ27_getChars_67 : decode cJ27_getChars 67 = .ok (.baload, 1) := dk_51 (dk_at dksJ27_getChars_2 20 rfl rfl)
theorem dJ27_getChars_68 : decode cJ27_getChars 68 = .ok (.bastore, 1) := dk_84 (dk_at dksJ27_getChars_2 21 rfl rfl)
theorem dJ27_getChars_69 : decode cJ27_getChars 69 = .ok (.goto (-47), 3) := dk_167 255 209 (dk_at dksJ27_getChars_3 0 rfl rfl)
theorem dJ27_getChars_72 : decode cJ27_getChars 72 = .ok (.aload_n 2, 1) := dk_44 (dk_at dksJ27_getChars_3 3 rfl rfl)
theorem dJ27_getChars_73 : decode cJ27_getChars 73 = .ok (.iinc 5 (-1), 3) := dk_132 5 255 (dk_at dksJ27_getChars_3 4 rfl rfl)
theorem dJ27_getChars_76 : decode cJ27_getChars 76 = .ok (.iload 5, 2) := dk_21 5 (dk_at dksJ27_getChars_3 7 rfl rfl)
theorem dJ27_getChars_78 : decode cJ27_getChars 78 = .ok (.getstatic 83, 3) := dk_178 0 83 (dk_at dksJ27_getChars_3 9 rfl rfl)
theorem dJ27_getChars_81 : decode cJ27_getChars 81 = .ok (.iload_n 0, 1) := dk_26 (dk_at dksJ27_getChars_3 12 rfl rfl)
theorem dJ27_getChars_82 : decode cJ27_getChars 82 = .ok (.ineg, 1) := dk_116 (dk_at dksJ27_getChars_3 13 rfl rfl)
theorem dJ27_getChars_83 : decode cJ27_getChars 83 = .ok (.baload, 1) := dk_51 (dk_at dksJ27_getChars_3 14 rfl rfl)
theorem dJ27_getChars_84 : decode cJ27_getChars 84 = .ok (.bastore, 1) := dk_84 (dk_at dksJ27_getChars_3 15 rfl rfl)
theorem dJ27_getChars_85 : decode cJ27_getChars 85 = .ok (.iload_n 0, 1) := dk_26 (dk_at dksJ27_getChars_3 16 rfl rfl)
theorem dJ27_getChars_86 : decode cJ27_getChars 86 = .ok (.bipush (-9), 2) := dk_16 247 (dk_at dksJ27_getChars_3 17 rfl rfl)
theorem dJ27_getChars_88 : decode cJ27_getChars 88 = .ok (.if_icmp .ge 16, 3) := dk_162 0 16 (dk_at dksJ27_getChars_3 19 rfl rfl)
theorem dJ27_getChars_91 : decode cJ27_getChars 91 = .ok (.aload_n 2, 1) := dk_44 (dk_at dksJ27_getChars_3 22 rfl rfl)
theorem dJ27_getChars_92 : decode cJ27_getChars 92 = .ok (.iinc 5 (-1), 3) := dk_132 5 255 (dk_at dksJ27_getChars_4 0 rfl rfl)
theorem dJ27_getChars_95 : decode cJ27_getChars 95 = .ok (.iload 5, 2) := dk_21 5 (dk_at dksJ27_getChars_4 3 rfl rfl)
theorem dJ27_getChars_97 : decode cJ27_getChars 97 = .ok (.getstatic 87, 3) := dk_178 0 87 (dk_at dksJ27_getChars_4 5 rfl rfl)
theorem dJ27_getChars_100 : decode cJ27_getChars 100 = .ok (.iload_n 0, 1) := dk_26 (dk_at dksJ27_getChars_4 8 rfl rfl)
theorem dJ27_getChars_101 : decode cJ27_getChars 101 = .ok (.ineg, 1) := dk_116 (dk_at dksJ27_getChars_4 9 rfl rfl)
theorem dJ27_getChars_102 : decode cJ27_getChars 102 = .ok (.baload, 1) := dk_51 (dk_at dksJ27_getChars_4 10 rfl rfl)
theorem dJ27_getChars_103 : decode cJ27_getChars 103 = .ok (.bastore, 1) := dk_84 (dk_at dksJ27_getChars_4 11 rfl rfl)
theorem dJ27_getChars_104 : decode cJ27_getChars 104 = .ok (.iload 6, 2) := dk_21 6 (dk_at dksJ27_getChars_4 12 rfl rfl)
theorem dJ27_getChars_106 : decode cJ27_getChars 106 = .ok (.ifCond .eq 12, 3) := dk_153 0 12 (dk_at dksJ27_getChars_4 14 rfl rfl)
theorem dJ27_getChars_109 : decode cJ27_getChars 109 = .ok (.aload_n 2, 1) := dk_44 (dk_at dksJ27_getChars_4 17 rfl rfl)
theorem dJ27_getChars_110 : decode cJ27_getChars 110 = .ok (.iinc 5 (-1), 3) := dk_132 5 255 (dk_at dksJ27_getChars_4 18 rfl rfl)
theorem dJ27_getChars_113 : decode cJ27_getChars 113 = .ok (.iload 5, 2) := dk_21 5 (dk_at dksJ27_getChars_4 21 rfl rfl)
theorem dJ27_getChars_115 : decode cJ27_getChars 115 = .ok (.bipush 45, 2) := dk_16 45 (dk_at dksJ27_getChars_5 0 rfl rfl)
theorem dJ27_getChars_117 : decode cJ27_getChars 117 = .ok (.bastore, 1) := dk_84 (dk_at dksJ27_getChars_5 2 rfl rfl)
theorem dJ27_getChars_118 : decode cJ27_getChars 118 = .ok (.iload 5, 2) := dk_21 5 (dk_at dksJ27_getChars_5 3 rfl rfl)
theorem dJ27_getChars_120 : decode cJ27_getChars 120 = .ok (.ireturn, 1) := dk_172 (dk_at dksJ27_getChars_5 5 rfl rfl)
theorem q101 : (Jvm.Cond.initialized "java/lang/Integer") ∈ lw_all := lw_g (lw_at lw_m1 38 rfl) rfl
theorem q1243 : (Jvm.Cond.static ({ cls := "java/lang/Integer", name := "numberOfTrailingZeros", desc := "(I)I" } : Jvm.MethodName)) ∈ lw_all := lw_g (lw_at lw_m5 220 rfl) rfl
theorem q1244 : (Jvm.Cond.code ({ cls := "java/lang/Integer", name := "numberOfTrailingZeros", desc := "(I)I" } : Jvm.MethodName) prog_20_method_48_code (2 : Nat) (Option.some Jvm.ClassFile.FieldType.int)) ∈ lw_all := lw_g (lw_at lw_m5 221 rfl) rfl
theorem q1245 : (Jvm.Cond.constant "java/lang/Integer" (264 : Nat) (65536 : Int32)) ∈ lw_all := lw_g (lw_at lw_m5 222 rfl) rfl
theorem q1741 : (Jvm.Cond.static ({ cls := "java/lang/Integer", name := "stringSize", desc := "(I)I" } : Jvm.MethodName)) ∈ lw_all := lw_g (lw_at lw_m7 238 rfl) rfl
theorem q1742 : (Jvm.Cond.code ({ cls := "java/lang/Integer", name := "stringSize", desc := "(I)I" } : Jvm.MethodName) prog_20_method_13_code (4 : Nat) (Option.some Jvm.ClassFile.FieldType.int)) ∈ lw_all := lw_g (lw_at lw_m7 239 rfl) rfl
theorem q1744 : (Jvm.Cond.static ({ cls := "java/lang/Integer", name := "getChars", desc := "(II[B)I" } : Jvm.MethodName)) ∈ lw_all := lw_g (lw_at lw_m8 1 rfl) rfl
theorem q1745 : (Jvm.Cond.code ({ cls := "java/lang/Integer", name := "getChars", desc := "(II[B)I" } : Jvm.MethodName) prog_20_method_12_code (7 : Nat) (Option.some Jvm.ClassFile.FieldType.int)) ∈ lw_all := lw_g (lw_at lw_m8 2 rfl) rfl
theorem q1746 : (Jvm.Cond.fieldLink "java/lang/Integer" (83 : Nat) "java/lang/Integer" "DigitOnes" "[B") ∈ lw_all := lw_g (lw_at lw_m8 3 rfl) rfl
theorem q1747 : (Jvm.Cond.laysStatic "java/lang/Integer" "DigitOnes" "[B") ∈ lw_tbl := lw_at lw_m8 4 rfl
theorem q1748 : (Jvm.Cond.fieldLink "java/lang/Integer" (87 : Nat) "java/lang/Integer" "DigitTens" "[B") ∈ lw_all := lw_g (lw_at lw_m8 5 rfl) rfl
theorem q1749 : (Jvm.Cond.laysStatic "java/lang/Integer" "DigitTens" "[B") ∈ lw_tbl := lw_at lw_m8 6 rfl

/-! java/lang/Object -/
set_option maxRecDepth 100000
def RJ28 : String := "java/lang/Object"
abbrev cJ28_init : ByteArray := object_method_1_code
def yJ28_init : MethodName := ⟨RJ28, "<init>", "()V"⟩
theorem dJ28_init_0 : decode cJ28_init 0 = .ok (.return_, 1) := by decide +kernel
theorem q112 : (Jvm.Cond.instanceMethod ({ cls := "java/lang/Object", name := "<init>", desc := "()V" } : Jvm.MethodName)) ∈ lw_all := lw_g (lw_at lw_m1 49 rfl) rfl
theorem q113 : (Jvm.Cond.code ({ cls := "java/lang/Object", name := "<init>", desc := "()V" } : Jvm.MethodName) object_method_1_code (1 : Nat) (Option.none : Option Jvm.ClassFile.FieldType)) ∈ lw_all := lw_g (lw_at lw_m1 50 rfl) rfl
theorem q258 : (Jvm.Cond.instanceMethod ({ cls := "java/lang/Object", name := "getClass", desc := "()Ljava/lang/Class;" } : Jvm.MethodName)) ∈ lw_all := lw_g (lw_at lw_m1 195 rfl) rfl
theorem q259 : (Jvm.Cond.sameMethod "java/lang/Object" "java/lang/Object" "getClass" "()Ljava/lang/Class;") ∈ lw_all := lw_g (lw_at lw_m1 196 rfl) rfl
theorem q283 : (Jvm.Cond.native ({ cls := "java/lang/Object", name := "getClass", desc := "()Ljava/lang/Class;" } : Jvm.MethodName)) ∈ lw_all := lw_g (lw_at lw_m1 220 rfl) rfl
theorem q475 : (Jvm.Cond.native ({ cls := "java/lang/Object", name := "clone", desc := "()Ljava/lang/Object;" } : Jvm.MethodName)) ∈ lw_all := lw_g (lw_at lw_m2 172 rfl) rfl
theorem q476 : (Jvm.Cond.instanceMethod ({ cls := "java/lang/Object", name := "clone", desc := "()Ljava/lang/Object;" } : Jvm.MethodName)) ∈ lw_all := lw_g (lw_at lw_m2 173 rfl) rfl
theorem q2251 : (Jvm.Cond.initialized "java/lang/Object") ∈ lw_all := lw_g (lw_at lw_m10 28 rfl) rfl
theorem q2278 : (Jvm.Cond.declares ({ cls := "java/lang/Object", name := "getClass", desc := "()Ljava/lang/Class;" } : Jvm.MethodName)) ∈ lw_tbl := lw_at lw_m10 55 rfl

/-! java/lang/System$2 -/
set_option maxRecDepth 100000
def RJ29 : String := "java/lang/System$2"
abbrev cJ29_getUTF16Char : ByteArray := prog_31_method_45_code
def yJ29_getUTF16Char : MethodName := ⟨RJ29, "getUTF16Char", "([BI)C"⟩
def dkwJ29_getUTF16Char_0 : List UInt8 := [43, 28, 184, 0, 185, 172]
abbrev dktJ29_getUTF16Char_0 : List UInt8 := dkwJ29_getUTF16Char_0 ++ []
theorem dksJ29_getUTF16Char_0 : cJ29_getUTF16Char.data.toList.drop 0 = dktJ29_getUTF16Char_0 := by decide +kernel
theorem dJ29_getUTF16Char_0 : decode cJ29_getUTF16Char 0 = .ok (.aload_n 1, 1) := dk_43 (dk_at dksJ29_getUTF16Char_0 0 rfl rfl)
theorem dJ29_getUTF16Char_1 : decode cJ29_getUTF16Char 1 = .ok (.iload_n 2, 1) := dk_28 (dk_at dksJ29_getUTF16Char_0 1 rfl rfl)
theorem dJ29_getUTF16Char_2 : decode cJ29_getUTF16Char 2 = .ok (.invokestatic 185, 3) := dk_184 0 185 (dk_at dksJ29_getUTF16Char_0 2 rfl rfl)
theorem dJ29_getUTF16Char_5 : decode cJ29_getUTF16Char 5 = .ok (.ireturn, 1) := dk_172 (dk_at dksJ29_getUTF16Char_0 5 rfl rfl)
theorem q272 : (Jvm.Cond.selects "java/lang/System$2" ({ cls := "java/lang/Object", name := "getClass", desc := "()Ljava/lang/Class;" } : Jvm.MethodName) ({ cls := "java/lang/Object", name := "getClass", desc := "()Ljava/lang/Class;" } : Jvm.MethodName)) ∈ lw_all := lw_g (lw_at lw_m1 209 rfl) rfl
theorem q1616 : (Jvm.Cond.castable "java/lang/System$2" "jdk/internal/access/JavaLangAccess") ∈ lw_tbl := lw_at lw_m7 113 rfl
theorem q1617 : (Jvm.Cond.selects "java/lang/System$2" ({ cls := "jdk/internal/access/JavaLangAccess", name := "getUTF16Char", desc := "([BI)C" } : Jvm.MethodName) ({ cls := "java/lang/System$2", name := "getUTF16Char", desc := "([BI)C" } : Jvm.MethodName)) ∈ lw_all := lw_g (lw_at lw_m7 114 rfl) rfl
theorem q1618 : (Jvm.Cond.unhidden "java/lang/System$2" "getUTF16Char" "([BI)C") ∈ lw_tbl := lw_at lw_m7 115 rfl
theorem q1619 : (Jvm.Cond.instanceMethod ({ cls := "java/lang/System$2", name := "getUTF16Char", desc := "([BI)C" } : Jvm.MethodName)) ∈ lw_all := lw_g (lw_at lw_m7 116 rfl) rfl
theorem q1620 : (Jvm.Cond.publicMethod ({ cls := "java/lang/System$2", name := "getUTF16Char", desc := "([BI)C" } : Jvm.MethodName)) ∈ lw_tbl := lw_at lw_m7 117 rfl
theorem q1621 : (Jvm.Cond.code ({ cls := "java/lang/System$2", name := "getUTF16Char", desc := "([BI)C" } : Jvm.MethodName) prog_31_method_45_code (3 : Nat) (Option.some Jvm.ClassFile.FieldType.char)) ∈ lw_all := lw_g (lw_at lw_m7 118 rfl) rfl
theorem q1622 : (Jvm.Cond.methodLink "java/lang/System$2" (185 : Nat) ({ cls := "java/lang/StringUTF16", name := "getChar", desc := "([BI)C" } : Jvm.MethodName)) ∈ lw_all := lw_g (lw_at lw_m7 119 rfl) rfl
theorem q2274 : (Jvm.Cond.castable "java/lang/System$2" "java/lang/Object") ∈ lw_tbl := lw_at lw_m10 51 rfl

/-! java/util/AbstractSequentialList -/
set_option maxRecDepth 100000
def RJ3 : String := "java/util/AbstractSequentialList"
abbrev cJ3_init : ByteArray := prog_39_method_1_code
def yJ3_init : MethodName := ⟨RJ3, "<init>", "()V"⟩
theorem dJ3_init_0 : decode cJ3_init 0 = .ok (.aload_n 0, 1) := by decide +kernel
theorem dJ3_init_1 : decode cJ3_init 1 = .ok (.invokespecial 1, 3) := by decide +kernel
theorem dJ3_init_4 : decode cJ3_init 4 = .ok (.return_, 1) := by decide +kernel
abbrev cJ3_iterator : ByteArray := prog_39_method_7_code
def yJ3_iterator : MethodName := ⟨RJ3, "iterator", "()Ljava/util/Iterator;"⟩
theorem dJ3_iterator_0 : decode cJ3_iterator 0 = .ok (.aload_n 0, 1) := by decide +kernel
theorem dJ3_iterator_1 : decode cJ3_iterator 1 = .ok (.invokevirtual 65, 3) := by decide +kernel
theorem dJ3_iterator_4 : decode cJ3_iterator 4 = .ok (.areturn, 1) := by decide +kernel
theorem q69 : (Jvm.Cond.initialized "java/util/AbstractSequentialList") ∈ lw_all := lw_g (lw_at lw_m1 6 rfl) rfl
theorem q161 : (Jvm.Cond.instanceMethod ({ cls := "java/util/AbstractSequentialList", name := "<init>", desc := "()V" } : Jvm.MethodName)) ∈ lw_all := lw_g (lw_at lw_m1 98 rfl) rfl
theorem q162 : (Jvm.Cond.code ({ cls := "java/util/AbstractSequentialList", name := "<init>", desc := "()V" } : Jvm.MethodName) prog_39_method_1_code (1 : Nat) (Option.none : Option Jvm.ClassFile.FieldType)) ∈ lw_all := lw_g (lw_at lw_m1 99 rfl) rfl
theorem q163 : (Jvm.Cond.methodLink "java/util/AbstractSequentialList" (1 : Nat) ({ cls := "java/util/AbstractList", name := "<init>", desc := "()V" } : Jvm.MethodName)) ∈ lw_all := lw_g (lw_at lw_m1 100 rfl) rfl
theorem q904 : (Jvm.Cond.declares ({ cls := "java/util/AbstractSequentialList", name := "iterator", desc := "()Ljava/util/Iterator;" } : Jvm.MethodName)) ∈ lw_tbl := lw_at lw_m4 121 rfl
theorem q906 : (Jvm.Cond.instanceMethod ({ cls := "java/util/AbstractSequentialList", name := "iterator", desc := "()Ljava/util/Iterator;" } : Jvm.MethodName)) ∈ lw_all := lw_g (lw_at lw_m4 123 rfl) rfl
theorem q907 : (Jvm.Cond.code ({ cls := "java/util/AbstractSequentialList", name := "iterator", desc := "()Ljava/util/Iterator;" } : Jvm.MethodName) prog_39_method_7_code (1 : Nat) (Option.some (Jvm.ClassFile.FieldType.object "java/util/Iterator"))) ∈ lw_all := lw_g (lw_at lw_m4 124 rfl) rfl
theorem q908 : (Jvm.Cond.methodLink "java/util/AbstractSequentialList" (65 : Nat) ({ cls := "java/util/AbstractSequentialList", name := "listIterator", desc := "()Ljava/util/ListIterator;" } : Jvm.MethodName)) ∈ lw_all := lw_g (lw_at lw_m4 125 rfl) rfl
theorem q909 : (Jvm.Cond.sameMethod "java/util/AbstractSequentialList" "java/util/AbstractList" "listIterator" "()Ljava/util/ListIterator;") ∈ lw_all := lw_g (lw_at lw_m4 126 rfl) rfl

/-! java/util/LinkedList -/
set_option maxRecDepth 100000
def RJ4 : String := "java/util/LinkedList"
def TJ4 : u_T := fun k => match k with
  | 0 => ("java/util/AbstractList", "modCount", "I", false)
  | 1 => ("java/util/LinkedList", "size", "I", false)
  | 2 => ("java/util/LinkedList", "first", "Ljava/util/LinkedList$Node;", false)
  | _ => ("java/util/LinkedList", "last", "Ljava/util/LinkedList$Node;", false)
def tyJ4 : Nat → FieldType := fun k => match k with
  | 0 => .int
  | 1 => .int
  | 2 => .object "java/util/LinkedList$Node"
  | _ => .object "java/util/LinkedList$Node"
abbrev wsJ40 : List Cond := u_ws RJ4 TJ4 4
theorem nmJ4 : ∀ a, a < 4 → ∀ b, b < 4 → a ≠ b → (TJ4 a).2.1 ≠ (TJ4 b).2.1 := by decide +kernel
theorem tyJ4_ok : ∀ k, k < 4 → parseFieldDescriptor (TJ4 k).2.2.1 = some (tyJ4 k) := by decide +kernel
abbrev cJ4_init : ByteArray := prog_49_method_1_code
def yJ4_init : MethodName := ⟨RJ4, "<init>", "()V"⟩
def dkwJ4_init_0 : List UInt8 := [42, 183, 0, 1, 42, 3, 181, 0, 7, 177]
abbrev dktJ4_init_0 : List UInt8 := dkwJ4_init_0 ++ []
theorem dksJ4_init_0 : cJ4_init.data.toList.drop 0 = dktJ4_init_0 := by decide +kernel
theorem dJ4_init_0 : decode cJ4_init 0 = .ok (.aload_n 0, 1) := dk_42 (dk_at dksJ4_init_0 0 rfl rfl)
theorem dJ4_init_1 : decode cJ4_init 1 = .ok (.invokespecial 1, 3) := dk_183 0 1 (dk_at dksJ4_init_0 1 rfl rfl)
theorem dJ4_init_4 : decode cJ4_init 4 = .ok (.aload_n 0, 1) := dk_42 (dk_at dksJ4_init_0 4 rfl rfl)
theorem dJ4_init_5 : decode cJ4_init 5 = .ok (.iconst 0, 1) := dk_3 (dk_at dksJ4_init_0 5 rfl rfl)
theorem dJ4_init_6 : decode cJ4_init 6 = .ok (.putfield 7, 3) := dk_181 0 7 (dk_at dksJ4_init_0 6 rfl rfl)
theorem dJ4_init_9 : decode cJ4_init 9 = .ok (.return_, 1) := dk_177 (dk_at dksJ4_init_0 9 rfl rfl)
abbrev cJ4_size : ByteArray := prog_49_method_16_code
def yJ4_size : MethodName := ⟨RJ4, "size", "()I"⟩
theorem dJ4_size_0 : decode cJ4_size 0 = .ok (.aload_n 0, 1) := by decide +kernel
theorem dJ4_size_1 : decode cJ4_size 1 = .ok (.getfield 7, 3) := by decide +kernel
theorem dJ4_size_4 : decode cJ4_size 4 = .ok (.ireturn, 1) := by decide +kernel
abbrev cJ4_get : ByteArray := prog_49_method_22_code
def yJ4_get : MethodName := ⟨RJ4, "get", "(I)Ljava/lang/Object;"⟩
def dkwJ4_get_0 : List UInt8 := [42, 27, 182, 0, 90, 42, 27, 182, 0, 86, 180, 0, 39, 176]
abbrev dktJ4_get_0 : List UInt8 := dkwJ4_get_0 ++ []
theorem dksJ4_get_0 : cJ4_get.data.toList.drop 0 = dktJ4_get_0 := by decide +kernel
theorem dJ4_get_0 : decode cJ4_get 0 = .ok (.aload_n 0, 1) := dk_42 (dk_at dksJ4_get_0 0 rfl rfl)
theorem dJ4_get_1 : decode cJ4_get 1 = .ok (.iload_n 1, 1) := dk_27 (dk_at dksJ4_get_0 1 rfl rfl)
theorem dJ4_get_2 : decode cJ4_get 2 = .ok (.invokevirtual 90, 3) := dk_182 0 90 (dk_at dksJ4_get_0 2 rfl rfl)
theorem dJ4_get_5 : decode cJ4_get 5 = .ok (.aload_n 0, 1) := dk_42 (dk_at dksJ4_get_0 5 rfl rfl)
theorem dJ4_get_6 : decode cJ4_get 6 = .ok (.iload_n 1, 1) := dk_27 (dk_at dksJ4_get_0 6 rfl rfl)
theorem dJ4_get_7 : decode cJ4_get 7 = .ok (.invokevirtual 86, 3) := dk_182 0 86 (dk_at dksJ4_get_0 7 rfl rfl)
theorem dJ4_get_10 : decode cJ4_get 10 = .ok (.getfield 39, 3) := dk_180 0 39 (dk_at dksJ4_get_0 10 rfl rfl)
theorem dJ4_get_13 : decode cJ4_get 13 = .ok (.areturn, 1) := dk_176 (dk_at dksJ4_get_0 13 rfl rfl)
abbrev cJ4_checkElementIndex : ByteArray := prog_49_method_29_code
def yJ4_checkElementIndex : MethodName := ⟨RJ4, "checkElementIndex", "(I)V"⟩
def dkwJ4_checkElementIndex_0 : List UInt8 := [42, 27, 182, 0, 115, 154, 0, 16, 187, 0, 119, 89, 42, 27, 182, 0, 121, 183, 0, 125, 191, 177]
abbrev dktJ4_checkElementIndex_0 : List UInt8 := dkwJ4_checkElementIndex_0 ++ []
theorem dksJ4_checkElementIndex_0 : cJ4_checkElementIndex.data.toList.drop 0 = dktJ4_checkElementIndex_0 := by decide +kernel
theorem dJ4_checkElementIndex_0 : decode cJ4_checkElementIndex 0 = .ok (.aload_n 0, 1) := dk_42 (dk_at dksJ4_checkElementIndex_0 0 rfl rfl)
theorem dJ4_checkElementIndex_1 : decode cJ4_checkElementIndex 1 = .ok (.iload_n 1, 1) := dk_27 (dk_at dksJ4_checkElementIndex_0 1 rfl rfl)
theorem dJ4_checkElementIndex_2 : decode cJ4_checkElementIndex 2 = .ok (.invokevirtual 115, 3) := dk_182 0 115 (dk_at dksJ4_checkElementIndex_0 2 rfl rfl)
theorem dJ4_checkElementIndex_5 : decode cJ4_checkElementIndex 5 = .ok (.ifCond .ne 16, 3) := dk_154 0 16 (dk_at dksJ4_checkElementIndex_0 5 rfl rfl)
theorem dJ4_checkElementIndex_8 : decode cJ4_checkElementIndex 8 = .ok (.new 119, 3) := dk_187 0 119 (dk_at dksJ4_checkElementIndex_0 8 rfl rfl)
theorem dJ4_checkElementIndex_11 : decode cJ4_checkElementIndex 11 = .ok (.dup, 1) := dk_89 (dk_at dksJ4_checkElementIndex_0 11 rfl rfl)
theorem dJ4_checkElementIndex_12 : decode cJ4_checkElementIndex 12 = .ok (.aload_n 0, 1) := dk_42 (dk_at dksJ4_checkElementIndex_0 12 rfl rfl)
theorem dJ4_checkElementIndex_13 : decode cJ4_checkElementIndex 13 = .ok (.iload_n 1, 1) := dk_27 (dk_at dksJ4_checkElementIndex_0 13 rfl rfl)
theorem dJ4_checkElementIndex_14 : decode cJ4_checkElementIndex 14 = .ok (.invokevirtual 121, 3) := dk_182 0 121 (dk_at dksJ4_checkElementIndex_0 14 rfl rfl)
theorem dJ4_checkElementIndex_17 : decode cJ4_checkElementIndex 17 = .ok (.invokespecial 125, 3) := dk_183 0 125 (dk_at dksJ4_checkElementIndex_0 17 rfl rfl)
theorem dJ4_checkElementIndex_20 : decode cJ4_checkElementIndex 20 = .ok (.athrow, 1) := dk_191 (dk_at dksJ4_checkElementIndex_0 20 rfl rfl)
theorem dJ4_checkElementIndex_21 : decode cJ4_checkElementIndex 21 = .ok (.return_, 1) := dk_177 (dk_at dksJ4_checkElementIndex_0 21 rfl rfl)
abbrev cJ4_isElementIndex : ByteArray := prog_49_method_26_code
def yJ4_isElementIndex : MethodName := ⟨RJ4, "isElementIndex", "(I)Z"⟩
def dkwJ4_isElementIndex_0 : List UInt8 := [27, 155, 0, 15, 27, 42, 180, 0, 7, 162, 0, 7, 4, 167, 0, 4, 3, 172]
abbrev dktJ4_isElementIndex_0 : List UInt8 := dkwJ4_isElementIndex_0 ++ []
theorem dksJ4_isElementIndex_0 : cJ4_isElementIndex.data.toList.drop 0 = dktJ4_isElementIndex_0 := by decide +kernel
theorem dJ4_isElementIndex_0 : decode cJ4_isElementIndex 0 = .ok (.iload_n 1, 1) := dk_27 (dk_at dksJ4_isElementIndex_0 0 rfl rfl)
theorem dJ4_isElementIndex_1 : decode cJ4_isElementIndex 1 = .ok (.ifCond .lt 15, 3) := dk_155 0 15 (dk_at dksJ4_isElementIndex_0 1 rfl rfl)
theorem dJ4_isElementIndex_4 : decode cJ4_isElementIndex 4 = .ok (.iload_n 1, 1) := dk_27 (dk_at dksJ4_isElementIndex_0 4 rfl rfl)
theorem dJ4_isElementIndex_5 : decode cJ4_isElementIndex 5 = .ok (.aload_n 0, 1) := dk_42 (dk_at dksJ4_isElementIndex_0 5 rfl rfl)
theorem dJ4_isElementIndex_6 : decode cJ4_isElementIndex 6 = .ok (.getfield 7, 3) := dk_180 0 7 (dk_at dksJ4_isElementIndex_0 6 rfl rfl)
theorem dJ4_isElementIndex_9 : decode cJ4_isElementIndex 9 = .ok (.if_icmp .ge 7, 3) := dk_162 0 7 (dk_at dksJ4_isElementIndex_0 9 rfl rfl)
theorem dJ4_isElementIndex_12 : decode cJ4_isElementIndex 12 = .ok (.iconst 1, 1) := dk_4 (dk_at dksJ4_isElementIndex_0 12 rfl rfl)
theorem dJ4_isElementIndex_13 : decode cJ4_isElementIndex 13 = .ok (.goto 4, 3) := dk_167 0 4 (dk_at dksJ4_isElementIndex_0 13 rfl rfl)
theorem dJ4_isElementIndex_16 : decode cJ4_isElementIndex 16 = .ok (.iconst 0, 1) := dk_3 (dk_at dksJ4_isElementIndex_0 16 rfl rfl)
theorem dJ4_isElementIndex_17 : decode cJ4_isElementIndex 17 = .ok (.ireturn, 1) := dk_172 (dk_at dksJ4_isElementIndex_0 17 rfl rfl)
abbrev cJ4_node : ByteArray := prog_49_method_31_code
def yJ4_node : MethodName := ⟨RJ4, "node", "(I)Ljava/util/LinkedList$Node;"⟩
def dkwJ4_node_2 : List UInt8 := [29, 27, 164, 0, 14, 44, 180, 0, 30, 77, 132, 3, 255, 167, 255, 243, 44, 176]
abbrev dktJ4_node_2 : List UInt8 := dkwJ4_node_2 ++ []
def dkwJ4_node_1 : List UInt8 := [180, 0, 36, 77, 132, 3, 1, 167, 255, 243, 44, 176, 42, 180, 0, 27, 77, 42, 180, 0, 7, 4, 100, 62]
abbrev dktJ4_node_1 : List UInt8 := dkwJ4_node_1 ++ dktJ4_node_2
def dkwJ4_node_0 : List UInt8 := [27, 42, 180, 0, 7, 4, 122, 162, 0, 28, 42, 180, 0, 18, 77, 3, 62, 29, 27, 162, 0, 14, 44]
abbrev dktJ4_node_0 : List UInt8 := dkwJ4_node_0 ++ dktJ4_node_1
theorem dksJ4_node_0 : cJ4_node.data.toList.drop 0 = dktJ4_node_0 := by decide +kernel
theorem dksJ4_node_1 : cJ4_node.data.toList.drop 23 = dktJ4_node_1 := dk_seg dksJ4_node_0 23 rfl rfl
theorem dksJ4_node_2 : cJ4_node.data.toList.drop 47 = dktJ4_node_2 := dk_seg dksJ4_node_1 24 rfl rfl
theorem dJ4_node_0 : decode cJ4_node 0 = .ok (.iload_n 1, 1) := dk_27 (dk_at dksJ4_node_0 0 rfl rfl)
theorem dJ4_node_1 : decode cJ4_node 1 = .ok (.aload_n 0, 1) := dk_42 (dk_at dksJ4_node_0 1 rfl rfl)
theorem dJ4_node_2 : decode cJ4_node 2 = .ok (.getfield 7, 3) := dk_180 0 7 (dk_at dksJ4_node_0 2 rfl rfl)
theorem dJ4_node_5 : decode cJ4_node 5 = .ok (.iconst 1, 1) := dk_4 (dk_at dksJ4_node_0 5 rfl rfl)
theorem dJ4_node_6 : decode cJ4_node 6 = .ok (.ishr, 1) := dk_122 (dk_at dksJ4_node_0 6 rfl rfl)
theorem dJ4_node_7 : decode cJ4_node 7 = .ok (.if_icmp .ge 28, 3) := dk_162 0 28 (dk_at dksJ4_node_0 7 rfl rfl)
theorem dJ4_node_10 : decode cJ4_node 10 = .ok (.aload_n 0, 1) := dk_42 (dk_at dksJ4_node_0 10 rfl rfl)
theorem dJ4_node_11 : decode cJ4_node 11 = .ok (.getfield 18, 3) := dk_180 0 18 (dk_at dksJ4_node_0 11 rfl rfl)
theorem dJ4_node_14 : decode cJ4_node 14 = .ok (.astore_n 2, 1) := dk_77 (dk_at dksJ4_node_0 14 rfl rfl)
theorem dJ4_node_15 : decode cJ4_node 15 = .ok (.iconst 0, 1) := dk_3 (dk_at dksJ4_node_0 15 rfl rfl)
theorem dJ4_node_16 : decode cJ4_node 16 = .ok (.istore_n 3, 1) := dk_62 (dk_at dksJ4_node_0 16 rfl rfl)
theorem dJ4_node_17 : decode cJ4_node 17 = .ok (.iload_n 3, 1) := dk_29 (dk_at dksJ4_node_0 17 rfl rfl)
theorem dJ4_node_18 : decode cJ4_node 18 = .ok (.iload_n 1, 1) := dk_27 (dk_at dksJ4_node_0 18 rfl rfl)
theorem dJ4_node_19 : decode cJ4_node 19 = .ok (.if_icmp .ge 14, 3) := dk_162 0 14 (dk_at dksJ4_node_0 19 rfl rfl)
theorem dJ4_node_22 : decode cJ4_node 22 = .ok (.aload_n 2, 1) := dk_44 (dk_at dksJ4_node_0 22 rfl rfl)
theorem dJ4_node_23 : decode cJ4_node 23 = .ok (.getfield 36, 3) := dk_180 0 36 (dk_at dksJ4_node_1 0 rfl rfl)
theorem dJ4_node_26 : decode cJ4_node 26 = .ok (.astore_n 2, 1) := dk_77 (dk_at dksJ4_node_1 3 rfl rfl)
theorem dJ4_node_27 : decode cJ4_node 27 = .ok (.iinc 3 1, 3) := dk_132 3 1 (dk_at dksJ4_node_1 4 rfl rfl)
theorem dJ4_node_30 : decode cJ4_node 30 = .ok (.goto (-13), 3) := dk_167 255 243 (dk_at dksJ4_node_1 7 rfl rfl)
theorem dJ4_node_33 : decode cJ4_node 33 = .ok (.aload_n 2, 1) := dk_44 (dk_at dksJ4_node_1 10 rfl rfl)
theorem dJ4_node_34 : decode cJ4_node 34 = .ok (.areturn, 1) := dk_176 (dk_at dksJ4_node_1 11 rfl rfl)
theorem dJ4_node_35 : decode cJ4_node 35 = .ok (.aload_n 0, 1) := dk_42 (dk_at dksJ4_node_1 12 rfl rfl)
theorem dJ4_node_36 : decode cJ4_node 36 = .ok (.getfield 27, 3) := dk_180 0 27 (dk_at dksJ4_node_1 13 rfl rfl)
theorem dJ4_node_39 : decode cJ4_node 39 = .ok (.astore_n 2, 1) := dk_77 (dk_at dksJ4_node_1 16 rfl rfl)
theorem dJ4_node_40 : decode cJ4_node 40 = .ok (.aload_n 0, 1) := dk_42 (dk_at dksJ4_node_1 17 rfl rfl)
theorem dJ4_node_41 : decode cJ4_node 41 = .ok (.getfield 7, 3) := dk_180 0 7 (dk_at dksJ4_node_1 18 rfl rfl)
theorem dJ4_node_44 : decode cJ4_node 44 = .ok (.iconst 1, 1) := dk_4 (dk_at dksJ4_node_1 21 rfl rfl)
theorem dJ4_node_45 : decode cJ4_node 45 = .ok (.isub, 1) := dk_100 (dk_at dksJ4_node_1 22 rfl rfl)
theorem dJ4_node_46 : decode cJ4_node 46 = .ok (.istore_n 3, 1) := dk_62 (dk_at dksJ4_node_1 23 rfl rfl)
theorem dJ4_node_47 : decode cJ4_node 47 = .ok (.iload_n 3, 1) := dk_29 (dk_at dksJ4_node_2 0 rfl rfl)
theorem dJ4_node_48 : decode cJ4_node 48 = .ok (.iload_n 1, 1) := dk_27 (dk_at dksJ4_node_2 1 rfl rfl)
theorem dJ4_node_49 : decode cJ4_node 49 = .ok (.if_icmp .le 14, 3) := dk_164 0 14 (dk_at dksJ4_node_2 2 rfl rfl)
theorem dJ4_node_52 : decode cJ4_node 52 = .ok (.aload_n 2, 1) := dk_44 (dk_at dksJ4_node_2 5 rfl rfl)
theorem dJ4_node_53 : decode cJ4_node 53 = .ok (.getfield 30, 3) := dk_180 0 30 (dk_at dksJ4_node_2 6 rfl rfl)
theorem dJ4_node_56 : decode cJ4_node 56 = .ok (.astore_n 2, 1) := dk_77 (dk_at dksJ4_node_2 9 rfl rfl)
theorem dJ4_node_57 : decode cJ4_node 57 = .ok (.iinc 3 (-1), 3) := dk_132 3 255 (dk_at dksJ4_node_2 10 rfl rfl)
theorem dJ4_node_60 : decode cJ4_node 60 = .ok (.goto (-13), 3) := dk_167 255 243 (dk_at dksJ4_node_2 13 rfl rfl)
theorem dJ4_node_63 : decode cJ4_node 63 = .ok (.aload_n 2, 1) := dk_44 (dk_at dksJ4_node_2 16 rfl rfl)
theorem dJ4_node_64 : decode cJ4_node 64 = .ok (.areturn, 1) := dk_176 (dk_at dksJ4_node_2 17 rfl rfl)
abbrev cJ4_listIterator : ByteArray := prog_49_method_49_code
def yJ4_listIterator : MethodName := ⟨RJ4, "listIterator", "(I)Ljava/util/ListIterator;"⟩
def dkwJ4_listIterator_0 : List UInt8 := [42, 27, 182, 0, 76, 187, 0, 150, 89, 42, 27, 183, 0, 152, 176]
abbrev dktJ4_listIterator_0 : List UInt8 := dkwJ4_listIterator_0 ++ []
theorem dksJ4_listIterator_0 : cJ4_listIterator.data.toList.drop 0 = dktJ4_listIterator_0 := by decide +kernel
theorem dJ4_listIterator_0 : decode cJ4_listIterator 0 = .ok (.aload_n 0, 1) := dk_42 (dk_at dksJ4_listIterator_0 0 rfl rfl)
theorem dJ4_listIterator_1 : decode cJ4_listIterator 1 = .ok (.iload_n 1, 1) := dk_27 (dk_at dksJ4_listIterator_0 1 rfl rfl)
theorem dJ4_listIterator_2 : decode cJ4_listIterator 2 = .ok (.invokevirtual 76, 3) := dk_182 0 76 (dk_at dksJ4_listIterator_0 2 rfl rfl)
theorem dJ4_listIterator_5 : decode cJ4_listIterator 5 = .ok (.new 150, 3) := dk_187 0 150 (dk_at dksJ4_listIterator_0 5 rfl rfl)
theorem dJ4_listIterator_8 : decode cJ4_listIterator 8 = .ok (.dup, 1) := dk_89 (dk_at dksJ4_listIterator_0 8 rfl rfl)
theorem dJ4_listIterator_9 : decode cJ4_listIterator 9 = .ok (.aload_n 0, 1) := dk_42 (dk_at dksJ4_listIterator_0 9 rfl rfl)
theorem dJ4_listIterator_10 : decode cJ4_listIterator 10 = .ok (.iload_n 1, 1) := dk_27 (dk_at dksJ4_listIterator_0 10 rfl rfl)
theorem dJ4_listIterator_11 : decode cJ4_listIterator 11 = .ok (.invokespecial 152, 3) := dk_183 0 152 (dk_at dksJ4_listIterator_0 11 rfl rfl)
theorem dJ4_listIterator_14 : decode cJ4_listIterator 14 = .ok (.areturn, 1) := dk_176 (dk_at dksJ4_listIterator_0 14 rfl rfl)
abbrev cJ4_checkPositionIndex : ByteArray := prog_49_method_30_code
def yJ4_checkPositionIndex : MethodName := ⟨RJ4, "checkPositionIndex", "(I)V"⟩
def dkwJ4_checkPositionIndex_0 : List UInt8 := [42, 27, 182, 0, 128, 154, 0, 16, 187, 0, 119, 89, 42, 27, 182, 0, 121, 183, 0, 125, 191, 177]
abbrev dktJ4_checkPositionIndex_0 : List UInt8 := dkwJ4_checkPositionIndex_0 ++ []
theorem dksJ4_checkPositionIndex_0 : cJ4_checkPositionIndex.data.toList.drop 0 = dktJ4_checkPositionIndex_0 := by decide +kernel
theorem dJ4_checkPositionIndex_0 : decode cJ4_checkPositionIndex 0 = .ok (.aload_n 0, 1) := dk_42 (dk_at dksJ4_checkPositionIndex_0 0 rfl rfl)
theorem dJ4_checkPositionIndex_1 : decode cJ4_checkPositionIndex 1 = .ok (.iload_n 1, 1) := dk_27 (dk_at dksJ4_checkPositionIndex_0 1 rfl rfl)
theorem dJ4_checkPositionIndex_2 : decode cJ4_checkPositionIndex 2 = .ok (.invokevirtual 128, 3) := dk_182 0 128 (dk_at dksJ4_checkPositionIndex_0 2 rfl rfl)
theorem dJ4_checkPositionIndex_5 : decode cJ4_checkPositionIndex 5 = .ok (.ifCond .ne 16, 3) := dk_154 0 16 (dk_at dksJ4_checkPositionIndex_0 5 rfl rfl)
theorem dJ4_checkPositionIndex_8 : decode cJ4_checkPositionIndex 8 = .ok (.new 119, 3) := dk_187 0 119 (dk_at dksJ4_checkPositionIndex_0 8 rfl rfl)
theorem dJ4_checkPositionIndex_11 : decode cJ4_checkPositionIndex 11 = .ok (.dup, 1) := dk_89 (dk_at dksJ4_checkPositionIndex_0 11 rfl rfl)
theorem dJ4_checkPositionIndex_12 : decode cJ4_checkPositionIndex 12 = .ok (.aload_n 0, 1) := dk_42 (dk_at dksJ4_checkPositionIndex_0 12 rfl rfl)
theorem dJ4_checkPositionIndex_13 : decode cJ4_checkPositionIndex 13 = .ok (.iload_n 1, 1) := dk_27 (dk_at dksJ4_checkPositionIndex_0 13 rfl rfl)
theorem dJ4_checkPositionIndex_14 : decode cJ4_checkPositionIndex 14 = .ok (.invokevirtual 121, 3) := dk_182 0 121 (dk_at dksJ4_checkPositionIndex_0 14 rfl rfl)
theorem dJ4_checkPositionIndex_17 : decode cJ4_checkPositionIndex 17 = .ok (.invokespecial 125, 3) := dk_183 0 125 (dk_at dksJ4_checkPositionIndex_0 17 rfl rfl)
theorem dJ4_checkPositionIndex_20 : decode cJ4_checkPositionIndex 20 = .ok (.athrow, 1) := dk_191 (dk_at dksJ4_checkPositionIndex_0 20 rfl rfl)
theorem dJ4_checkPositionIndex_21 : decode cJ4_checkPositionIndex 21 = .ok (.return_, 1) := dk_177 (dk_at dksJ4_checkPositionIndex_0 21 rfl rfl)
abbrev cJ4_isPositionIndex : ByteArray := prog_49_method_27_code
def yJ4_isPositionIndex : MethodName := ⟨RJ4, "isPositionIndex", "(I)Z"⟩
def dkwJ4_isPositionIndex_0 : List UInt8 := [27, 155, 0, 15, 27, 42, 180, 0, 7, 163, 0, 7, 4, 167, 0, 4, 3, 172]
abbrev dktJ4_isPositionIndex_0 : List UInt8 := dkwJ4_isPositionIndex_0 ++ []
theorem dksJ4_isPositionIndex_0 : cJ4_isPositionIndex.data.toList.drop 0 = dktJ4_isPositionIndex_0 := by decide +kernel
theorem dJ4_isPositionIndex_0 : decode cJ4_isPositionIndex 0 = .ok (.iload_n 1, 1) := dk_27 (dk_at dksJ4_isPositionIndex_0 0 rfl rfl)
theorem dJ4_isPositionIndex_1 : decode cJ4_isPositionIndex 1 = .ok (.ifCond .lt 15, 3) := dk_155 0 15 (dk_at dksJ4_isPositionIndex_0 1 rfl rfl)
theorem dJ4_isPositionIndex_4 : decode cJ4_isPositionIndex 4 = .ok (.iload_n 1, 1) := dk_27 (dk_at dksJ4_isPositionIndex_0 4 rfl rfl)
theorem dJ4_isPositionIndex_5 : decode cJ4_isPositionIndex 5 = .ok (.aload_n 0, 1) := dk_42 (dk_at dksJ4_isPositionIndex_0 5 rfl rfl)
theorem dJ4_isPositionIndex_6 : decode cJ4_isPositionIndex 6 = .ok (.getfield 7, 3) := dk_180 0 7 (dk_at dksJ4_isPositionIndex_0 6 rfl rfl)
theorem dJ4_isPositionIndex_9 : decode cJ4_isPositionIndex 9 = .ok (.if_icmp .gt 7, 3) := dk_163 0 7 (dk_at dksJ4_isPositionIndex_0 9 rfl rfl)
theorem dJ4_isPositionIndex_12 : decode cJ4_isPositionIndex 12 = .ok (.iconst 1, 1) := dk_4 (dk_at dksJ4_isPositionIndex_0 12 rfl rfl)
theorem dJ4_isPositionIndex_13 : decode cJ4_isPositionIndex 13 = .ok (.goto 4, 3) := dk_167 0 4 (dk_at dksJ4_isPositionIndex_0 13 rfl rfl)
theorem dJ4_isPositionIndex_16 : decode cJ4_isPositionIndex 16 = .ok (.iconst 0, 1) := dk_3 (dk_at dksJ4_isPositionIndex_0 16 rfl rfl)
theorem dJ4_isPositionIndex_17 : decode cJ4_isPositionIndex 17 = .ok (.ireturn, 1) := dk_172 (dk_at dksJ4_isPositionIndex_0 17 rfl rfl)
abbrev cJ4_addLast : ByteArray := prog_49_method_14_code
def yJ4_addLast : MethodName := ⟨RJ4, "addLast", "(Ljava/lang/Object;)V"⟩
def dkwJ4_addLast_0 : List UInt8 := [42, 43, 182, 0, 57, 177]
abbrev dktJ4_addLast_0 : List UInt8 := dkwJ4_addLast_0 ++ []
theorem dksJ4_addLast_0 : cJ4_addLast.data.toList.drop 0 = dktJ4_addLast_0 := by decide +kernel
theorem dJ4_addLast_0 : decode cJ4_addLast 0 = .ok (.aload_n 0, 1) := dk_42 (dk_at dksJ4_addLast_0 0 rfl rfl)
theorem dJ4_addLast_1 : decode cJ4_addLast 1 = .ok (.aload_n 1, 1) := dk_43 (dk_at dksJ4_addLast_0 1 rfl rfl)
theorem dJ4_addLast_2 : decode cJ4_addLast 2 = .ok (.invokevirtual 57, 3) := dk_182 0 57 (dk_at dksJ4_addLast_0 2 rfl rfl)
theorem dJ4_addLast_5 : decode cJ4_addLast 5 = .ok (.return_, 1) := dk_177 (dk_at dksJ4_addLast_0 5 rfl rfl)
abbrev cJ4_linkLast : ByteArray := prog_49_method_4_code
def yJ4_linkLast : MethodName := ⟨RJ4, "linkLast", "(Ljava/lang/Object;)V"⟩
def dkwJ4_linkLast_2 : List UInt8 := [181, 0, 7, 42, 89, 180, 0, 33, 4, 96, 181, 0, 33, 177]
abbrev dktJ4_linkLast_2 : List UInt8 := dkwJ4_linkLast_2 ++ []
def dkwJ4_linkLast_1 : List UInt8 := [199, 0, 11, 42, 45, 181, 0, 18, 167, 0, 8, 44, 45, 181, 0, 36, 42, 89, 180, 0, 7, 4, 96]
abbrev dktJ4_linkLast_1 : List UInt8 := dkwJ4_linkLast_1 ++ dktJ4_linkLast_2
def dkwJ4_linkLast_0 : List UInt8 := [42, 180, 0, 27, 77, 187, 0, 22, 89, 44, 43, 1, 183, 0, 24, 78, 42, 45, 181, 0, 27, 44]
abbrev dktJ4_linkLast_0 : List UInt8 := dkwJ4_linkLast_0 ++ dktJ4_linkLast_1
theorem dksJ4_linkLast_0 : cJ4_linkLast.data.toList.drop 0 = dktJ4_linkLast_0 := by decide +kernel
theorem dksJ4_linkLast_1 : cJ4_linkLast.data.toList.drop 22 = dktJ4_linkLast_1 := dk_seg dksJ4_linkLast_0 22 rfl rfl
theorem dksJ4_linkLast_2 : cJ4_linkLast.data.toList.drop 45 = dktJ4_linkLast_2 := dk_seg dksJ4_linkLast_1 23 rfl rfl
theorem dJ4_linkLast_0 : decode cJ4_linkLast 0 = .ok (.aload_n 0, 1) := dk_42 (dk_at dksJ4_linkLast_0 0 rfl rfl)
theorem dJ4_linkLast_1 : decode cJ4_linkLast 1 = .ok (.getfield 27, 3) := dk_180 0 27 (dk_at dksJ4_linkLast_0 1 rfl rfl)
theorem dJ4_linkLast_4 : decode cJ4_linkLast 4 = .ok (.astore_n 2, 1) := dk_77 (dk_at dksJ4_linkLast_0 4 rfl rfl)
theorem dJ4_linkLast_5 : decode cJ4_linkLast 5 = .ok (.new 22, 3) := dk_187 0 22 (dk_at dksJ4_linkLast_0 5 rfl rfl)
theorem dJ4_linkLast_8 : decode cJ4_linkLast 8 = .ok (.dup, 1) := dk_89 (dk_at dksJ4_linkLast_0 8 rfl rfl)
theorem dJ4_linkLast_9 : decode cJ4_linkLast 9 = .ok (.aload_n 2, 1) := dk_44 (dk_at dksJ4_linkLast_0 9 rfl rfl)
theorem dJ4_linkLast_10 : decode cJ4_linkLast 10 = .ok (.aload_n 1, 1) := dk_43 (dk_at dksJ4_linkLast_0 10 rfl rfl)
theorem dJ4_linkLast_11 : decode cJ4_linkLast 11 = .ok (.aconst_null, 1) := dk_1 (dk_at dksJ4_linkLast_0 11 rfl rfl)
theorem dJ4_linkLast_12 : decode cJ4_linkLast 12 = .ok (.invokespecial 24, 3) := dk_183 0 24 (dk_at dksJ4_linkLast_0 12 rfl rfl)
theorem dJ4_linkLast_15 : decode cJ4_linkLast 15 = .ok (.astore_n 3, 1) := dk_78 (dk_at dksJ4_linkLast_0 15 rfl rfl)
theorem dJ4_linkLast_16 : decode cJ4_linkLast 16 = .ok (.aload_n 0, 1) := dk_42 (dk_at dksJ4_linkLast_0 16 rfl rfl)
theorem dJ4_linkLast_17 : decode cJ4_linkLast 17 = .ok (.aload_n 3, 1) := dk_45 (dk_at dksJ4_linkLast_0 17 rfl rfl)
theorem dJ4_linkLast_18 : decode cJ4_linkLast 18 = .ok (.putfield 27, 3) := dk_181 0 27 (dk_at dksJ4_linkLast_0 18 rfl rfl)
theorem dJ4_linkLast_21 : decode cJ4_linkLast 21 = .ok (.aload_n 2, 1) := dk_44 (dk_at dksJ4_linkLast_0 21 rfl rfl)
theorem dJ4_linkLast_22 : decode cJ4_linkLast 22 = .ok (.ifnonnull 11, 3) := dk_199 0 11 (dk_at dksJ4_linkLast_1 0 rfl rfl)
theorem dJ4_linkLast_25 : decode cJ4_linkLast 25 = .ok (.aload_n 0, 1) := dk_42 (dk_at dksJ4_linkLast_1 3 rfl rfl)
theorem dJ4_linkLast_26 : decode cJ4_linkLast 26 = .ok (.aload_n 3, 1) := dk_45 (dk_at dksJ4_linkLast_1 4 rfl rfl)
theorem dJ4_linkLast_27 : decode cJ4_linkLast 27 = .ok (.putfield 18, 3) := dk_181 0 18 (dk_at dksJ4_linkLast_1 5 rfl rfl)
theorem dJ4_linkLast_30 : decode cJ4_linkLast 30 = .ok (.goto 8, 3) := dk_167 0 8 (dk_at dksJ4_linkLast_1 8 rfl rfl)
theorem dJ4_linkLast_33 : decode cJ4_linkLast 33 = .ok (.aload_n 2, 1) := dk_44 (dk_at dksJ4_linkLast_1 11 rfl rfl)
theorem dJ4_linkLast_34 : decode cJ4_linkLast 34 = .ok (.aload_n 3, 1) := dk_45 (dk_at dksJ4_linkLast_1 12 rfl rfl)
theorem dJ4_linkLast_35 : decode cJ4_linkLast 35 = .ok (.putfield 36, 3) := dk_181 0 36 (dk_at dksJ4_linkLast_1 13 rfl rfl)
theorem dJ4_linkLast_38 : decode cJ4_linkLast 38 = .ok (.aload_n 0, 1) := dk_42 (dk_at dksJ4_linkLast_1 16 rfl rfl)
theorem dJ4_linkLast_39 : decode cJ4_linkLast 39 = .ok (.dup, 1) := dk_89 (dk_at dksJ4_linkLast_1 17 rfl rfl)
theorem dJ4_linkLast_40 : decode cJ4_linkLast 40 = .ok (.getfield 7, 3) := dk_180 0 7 (dk_at dksJ4_linkLast_1 18 rfl rfl)
theorem dJ4_linkLast_43 : decode cJ4_linkLast 43 = .ok (.iconst 1, 1) := dk_4 (dk_at dksJ4_linkLast_1 21 rfl rfl)
theorem dJ4_linkLast_44 : decode cJ4_linkLast 44 = .ok (.iadd, 1) := dk_96 (dk_at dksJ4_linkLast_1 22 rfl rfl)
theorem dJ4_linkLast_45 : decode cJ4_linkLast 45 = .ok (.putfield 7, 3) := dk_181 0 7 (dk_at dksJ4_linkLast_2 0 rfl rfl)
theorem dJ4_linkLast_48 : decode cJ4_linkLast 48 = .ok (.aload_n 0, 1) := dk_42 (dk_at dksJ4_linkLast_2 3 rfl rfl)
theorem dJ4_linkLast_49 : decode cJ4_linkLast 49 = .ok (.dup, 1) := dk_89 (dk_at dksJ4_linkLast_2 4 rfl rfl)
theorem dJ4_linkLast_50 : decode cJ4_linkLast 50 = .ok (.getfield 33, 3) := dk_180 0 33 (dk_at dksJ4_linkLast_2 5 rfl rfl)
theorem dJ4_linkLast_53 : decode cJ4_linkLast 53 = .ok (.iconst 1, 1) := dk_4 (dk_at dksJ4_linkLast_2 8 rfl rfl)
theorem dJ4_linkLast_54 : decode cJ4_linkLast 54 = .ok (.iadd, 1) := dk_96 (dk_at dksJ4_linkLast_2 9 rfl rfl)
theorem dJ4_linkLast_55 : decode cJ4_linkLast 55 = .ok (.putfield 33, 3) := dk_181 0 33 (dk_at dksJ4_linkLast_2 10 rfl rfl)
theorem dJ4_linkLast_58 : decode cJ4_linkLast 58 = .ok (.return_, 1) := dk_177 (dk_at dksJ4_linkLast_2 13 rfl rfl)
theorem q70 : (Jvm.Cond.initialized "java/util/LinkedList") ∈ lw_all := lw_g (lw_at lw_m1 7 rfl) rfl
theorem q142 : (Jvm.Cond.sameField "java/util/LinkedList" "java/util/AbstractList" "modCount" "I") ∈ lw_all := lw_g (lw_at lw_m1 79 rfl) rfl
theorem q146 : (Jvm.Cond.fieldLink "java/util/LinkedList" (33 : Nat) "java/util/LinkedList" "modCount" "I") ∈ lw_all := lw_g (lw_at lw_m1 83 rfl) rfl
theorem q156 : (Jvm.Cond.instantiable "java/util/LinkedList" (4 : Nat)) ∈ lw_all := lw_g (lw_at lw_m1 93 rfl) rfl
theorem q158 : (Jvm.Cond.instanceMethod ({ cls := "java/util/LinkedList", name := "<init>", desc := "()V" } : Jvm.MethodName)) ∈ lw_all := lw_g (lw_at lw_m1 95 rfl) rfl
theorem q159 : (Jvm.Cond.code ({ cls := "java/util/LinkedList", name := "<init>", desc := "()V" } : Jvm.MethodName) prog_49_method_1_code (1 : Nat) (Option.none : Option Jvm.ClassFile.FieldType)) ∈ lw_all := lw_g (lw_at lw_m1 96 rfl) rfl
theorem q160 : (Jvm.Cond.methodLink "java/util/LinkedList" (1 : Nat) ({ cls := "java/util/AbstractSequentialList", name := "<init>", desc := "()V" } : Jvm.MethodName)) ∈ lw_all := lw_g (lw_at lw_m1 97 rfl) rfl
theorem q164 : (Jvm.Cond.fieldLink "java/util/LinkedList" (7 : Nat) "java/util/LinkedList" "size" "I") ∈ lw_all := lw_g (lw_at lw_m1 101 rfl) rfl
theorem q166 : (Jvm.Cond.fieldLink "java/util/LinkedList" (18 : Nat) "java/util/LinkedList" "first" "Ljava/util/LinkedList$Node;") ∈ lw_all := lw_g (lw_at lw_m1 103 rfl) rfl
theorem q167 : (Jvm.Cond.fieldLink "java/util/LinkedList" (27 : Nat) "java/util/LinkedList" "last" "Ljava/util/LinkedList$Node;") ∈ lw_all := lw_g (lw_at lw_m1 104 rfl) rfl
theorem q168 : (Jvm.Cond.lays "java/util/LinkedList" "java/util/LinkedList" "size" "I") ∈ lw_all := lw_g (lw_at lw_m1 105 rfl) rfl
theorem q169 : (Jvm.Cond.soleField "java/util/LinkedList" "size") ∈ lw_all := lw_g (lw_at lw_m1 106 rfl) rfl
theorem q170 : (Jvm.Cond.lays "java/util/LinkedList" "java/util/LinkedList" "first" "Ljava/util/LinkedList$Node;") ∈ lw_all := lw_g (lw_at lw_m1 107 rfl) rfl
theorem q171 : (Jvm.Cond.soleField "java/util/LinkedList" "first") ∈ lw_all := lw_g (lw_at lw_m1 108 rfl) rfl
theorem q172 : (Jvm.Cond.lays "java/util/LinkedList" "java/util/LinkedList" "last" "Ljava/util/LinkedList$Node;") ∈ lw_all := lw_g (lw_at lw_m1 109 rfl) rfl
theorem q173 : (Jvm.Cond.soleField "java/util/LinkedList" "last") ∈ lw_all := lw_g (lw_at lw_m1 110 rfl) rfl
theorem q174 : (Jvm.Cond.lays "java/util/LinkedList" "java/util/AbstractList" "modCount" "I") ∈ lw_all := lw_g (lw_at lw_m1 111 rfl) rfl
theorem q175 : (Jvm.Cond.superclass "java/util/LinkedList" "java/util/AbstractSequentialList") ∈ lw_all := lw_g (lw_at lw_m1 112 rfl) rfl
theorem q279 : (Jvm.Cond.selects "java/util/LinkedList" ({ cls := "java/lang/Object", name := "getClass", desc := "()Ljava/lang/Class;" } : Jvm.MethodName) ({ cls := "java/lang/Object", name := "getClass", desc := "()Ljava/lang/Class;" } : Jvm.MethodName)) ∈ lw_all := lw_g (lw_at lw_m1 216 rfl) rfl
theorem q532 : (Jvm.Cond.selects "java/util/LinkedList" ({ cls := "java/util/AbstractList", name := "size", desc := "()I" } : Jvm.MethodName) ({ cls := "java/util/LinkedList", name := "size", desc := "()I" } : Jvm.MethodName)) ∈ lw_all := lw_g (lw_at lw_m2 229 rfl) rfl
theorem q533 : (Jvm.Cond.instanceMethod ({ cls := "java/util/LinkedList", name := "size", desc := "()I" } : Jvm.MethodName)) ∈ lw_all := lw_g (lw_at lw_m2 230 rfl) rfl
theorem q534 : (Jvm.Cond.code ({ cls := "java/util/LinkedList", name := "size", desc := "()I" } : Jvm.MethodName) prog_49_method_16_code (1 : Nat) (Option.some Jvm.ClassFile.FieldType.int)) ∈ lw_all := lw_g (lw_at lw_m2 231 rfl) rfl
theorem q568 : (Jvm.Cond.selects "java/util/LinkedList" ({ cls := "java/util/AbstractList", name := "get", desc := "(I)Ljava/lang/Object;" } : Jvm.MethodName) ({ cls := "java/util/LinkedList", name := "get", desc := "(I)Ljava/lang/Object;" } : Jvm.MethodName)) ∈ lw_all := lw_g (lw_at lw_m3 25 rfl) rfl
theorem q569 : (Jvm.Cond.instanceMethod ({ cls := "java/util/LinkedList", name := "get", desc := "(I)Ljava/lang/Object;" } : Jvm.MethodName)) ∈ lw_all := lw_g (lw_at lw_m3 26 rfl) rfl
theorem q570 : (Jvm.Cond.code ({ cls := "java/util/LinkedList", name := "get", desc := "(I)Ljava/lang/Object;" } : Jvm.MethodName) prog_49_method_22_code (2 : Nat) (Option.some (Jvm.ClassFile.FieldType.object "java/lang/Object"))) ∈ lw_all := lw_g (lw_at lw_m3 27 rfl) rfl
theorem q571 : (Jvm.Cond.methodLink "java/util/LinkedList" (90 : Nat) ({ cls := "java/util/LinkedList", name := "checkElementIndex", desc := "(I)V" } : Jvm.MethodName)) ∈ lw_all := lw_g (lw_at lw_m3 28 rfl) rfl
theorem q572 : (Jvm.Cond.privateMethod ({ cls := "java/util/LinkedList", name := "checkElementIndex", desc := "(I)V" } : Jvm.MethodName)) ∈ lw_tbl := lw_at lw_m3 29 rfl
theorem q573 : (Jvm.Cond.instanceMethod ({ cls := "java/util/LinkedList", name := "checkElementIndex", desc := "(I)V" } : Jvm.MethodName)) ∈ lw_all := lw_g (lw_at lw_m3 30 rfl) rfl
theorem q574 : (Jvm.Cond.code ({ cls := "java/util/LinkedList", name := "checkElementIndex", desc := "(I)V" } : Jvm.MethodName) prog_49_method_29_code (2 : Nat) (Option.none : Option Jvm.ClassFile.FieldType)) ∈ lw_all := lw_g (lw_at lw_m3 31 rfl) rfl
theorem q575 : (Jvm.Cond.methodLink "java/util/LinkedList" (115 : Nat) ({ cls := "java/util/LinkedList", name := "isElementIndex", desc := "(I)Z" } : Jvm.MethodName)) ∈ lw_all := lw_g (lw_at lw_m3 32 rfl) rfl
theorem q576 : (Jvm.Cond.privateMethod ({ cls := "java/util/LinkedList", name := "isElementIndex", desc := "(I)Z" } : Jvm.MethodName)) ∈ lw_tbl := lw_at lw_m3 33 rfl
theorem q577 : (Jvm.Cond.instanceMethod ({ cls := "java/util/LinkedList", name := "isElementIndex", desc := "(I)Z" } : Jvm.MethodName)) ∈ lw_all := lw_g (lw_at lw_m3 34 rfl) rfl
theorem q578 : (Jvm.Cond.code ({ cls := "java/util/LinkedList", name := "isElementIndex", desc := "(I)Z" } : Jvm.MethodName) prog_49_method_26_code (2 : Nat) (Option.some Jvm.ClassFile.FieldType.boolean)) ∈ lw_all := lw_g (lw_at lw_m3 35 rfl) rfl
theorem q579 : (Jvm.Cond.methodLink "java/util/LinkedList" (86 : Nat) ({ cls := "java/util/LinkedList", name := "node", desc := "(I)Ljava/util/LinkedList$Node;" } : Jvm.MethodName)) ∈ lw_all := lw_g (lw_at lw_m3 36 rfl) rfl
theorem q580 : (Jvm.Cond.instanceMethod ({ cls := "java/util/LinkedList", name := "node", desc := "(I)Ljava/util/LinkedList$Node;" } : Jvm.MethodName)) ∈ lw_all := lw_g (lw_at lw_m3 37 rfl) rfl
theorem q581 : (Jvm.Cond.selects "java/util/LinkedList" ({ cls := "java/util/LinkedList", name := "node", desc := "(I)Ljava/util/LinkedList$Node;" } : Jvm.MethodName) ({ cls := "java/util/LinkedList", name := "node", desc := "(I)Ljava/util/LinkedList$Node;" } : Jvm.MethodName)) ∈ lw_all := lw_g (lw_at lw_m3 38 rfl) rfl
theorem q582 : (Jvm.Cond.code ({ cls := "java/util/LinkedList", name := "node", desc := "(I)Ljava/util/LinkedList$Node;" } : Jvm.MethodName) prog_49_method_31_code (4 : Nat) (Option.some (Jvm.ClassFile.FieldType.object "java/util/LinkedList$Node"))) ∈ lw_all := lw_g (lw_at lw_m3 39 rfl) rfl
theorem q903 : (Jvm.Cond.sameMethod "java/util/LinkedList" "java/util/AbstractSequentialList" "iterator" "()Ljava/util/Iterator;") ∈ lw_all := lw_g (lw_at lw_m4 120 rfl) rfl
theorem q905 : (Jvm.Cond.selects "java/util/LinkedList" ({ cls := "java/util/LinkedList", name := "iterator", desc := "()Ljava/util/Iterator;" } : Jvm.MethodName) ({ cls := "java/util/AbstractSequentialList", name := "iterator", desc := "()Ljava/util/Iterator;" } : Jvm.MethodName)) ∈ lw_all := lw_g (lw_at lw_m4 122 rfl) rfl
theorem q911 : (Jvm.Cond.selects "java/util/LinkedList" ({ cls := "java/util/AbstractSequentialList", name := "listIterator", desc := "()Ljava/util/ListIterator;" } : Jvm.MethodName) ({ cls := "java/util/AbstractList", name := "listIterator", desc := "()Ljava/util/ListIterator;" } : Jvm.MethodName)) ∈ lw_all := lw_g (lw_at lw_m4 128 rfl) rfl
theorem q938 : (Jvm.Cond.selects "java/util/LinkedList" ({ cls := "java/util/AbstractList", name := "listIterator", desc := "(I)Ljava/util/ListIterator;" } : Jvm.MethodName) ({ cls := "java/util/LinkedList", name := "listIterator", desc := "(I)Ljava/util/ListIterator;" } : Jvm.MethodName)) ∈ lw_all := lw_g (lw_at lw_m4 155 rfl) rfl
theorem q939 : (Jvm.Cond.instanceMethod ({ cls := "java/util/LinkedList", name := "listIterator", desc := "(I)Ljava/util/ListIterator;" } : Jvm.MethodName)) ∈ lw_all := lw_g (lw_at lw_m4 156 rfl) rfl
theorem q940 : (Jvm.Cond.code ({ cls := "java/util/LinkedList", name := "listIterator", desc := "(I)Ljava/util/ListIterator;" } : Jvm.MethodName) prog_49_method_49_code (2 : Nat) (Option.some (Jvm.ClassFile.FieldType.object "java/util/ListIterator"))) ∈ lw_all := lw_g (lw_at lw_m4 157 rfl) rfl
theorem q941 : (Jvm.Cond.methodLink "java/util/LinkedList" (76 : Nat) ({ cls := "java/util/LinkedList", name := "checkPositionIndex", desc := "(I)V" } : Jvm.MethodName)) ∈ lw_all := lw_g (lw_at lw_m4 158 rfl) rfl
theorem q942 : (Jvm.Cond.privateMethod ({ cls := "java/util/LinkedList", name := "checkPositionIndex", desc := "(I)V" } : Jvm.MethodName)) ∈ lw_tbl := lw_at lw_m4 159 rfl
theorem q943 : (Jvm.Cond.instanceMethod ({ cls := "java/util/LinkedList", name := "checkPositionIndex", desc := "(I)V" } : Jvm.MethodName)) ∈ lw_all := lw_g (lw_at lw_m4 160 rfl) rfl
theorem q944 : (Jvm.Cond.code ({ cls := "java/util/LinkedList", name := "checkPositionIndex", desc := "(I)V" } : Jvm.MethodName) prog_49_method_30_code (2 : Nat) (Option.none : Option Jvm.ClassFile.FieldType)) ∈ lw_all := lw_g (lw_at lw_m4 161 rfl) rfl
theorem q945 : (Jvm.Cond.methodLink "java/util/LinkedList" (128 : Nat) ({ cls := "java/util/LinkedList", name := "isPositionIndex", desc := "(I)Z" } : Jvm.MethodName)) ∈ lw_all := lw_g (lw_at lw_m4 162 rfl) rfl
theorem q946 : (Jvm.Cond.privateMethod ({ cls := "java/util/LinkedList", name := "isPositionIndex", desc := "(I)Z" } : Jvm.MethodName)) ∈ lw_tbl := lw_at lw_m4 163 rfl
theorem q947 : (Jvm.Cond.instanceMethod ({ cls := "java/util/LinkedList", name := "isPositionIndex", desc := "(I)Z" } : Jvm.MethodName)) ∈ lw_all := lw_g (lw_at lw_m4 164 rfl) rfl
theorem q948 : (Jvm.Cond.code ({ cls := "java/util/LinkedList", name := "isPositionIndex", desc := "(I)Z" } : Jvm.MethodName) prog_49_method_27_code (2 : Nat) (Option.some Jvm.ClassFile.FieldType.boolean)) ∈ lw_all := lw_g (lw_at lw_m4 165 rfl) rfl
theorem q949 : (Jvm.Cond.classLink "java/util/LinkedList" (150 : Nat) "java/util/LinkedList$ListItr") ∈ lw_all := lw_g (lw_at lw_m4 166 rfl) rfl
theorem q951 : (Jvm.Cond.methodLink "java/util/LinkedList" (152 : Nat) ({ cls := "java/util/LinkedList$ListItr", name := "<init>", desc := "(Ljava/util/LinkedList;I)V" } : Jvm.MethodName)) ∈ lw_all := lw_g (lw_at lw_m4 168 rfl) rfl
theorem q1013 : (Jvm.Cond.instanceMethod ({ cls := "java/util/LinkedList", name := "addLast", desc := "(Ljava/lang/Object;)V" } : Jvm.MethodName)) ∈ lw_all := lw_g (lw_at lw_m4 230 rfl) rfl
theorem q1014 : (Jvm.Cond.selects "java/util/LinkedList" ({ cls := "java/util/LinkedList", name := "addLast", desc := "(Ljava/lang/Object;)V" } : Jvm.MethodName) ({ cls := "java/util/LinkedList", name := "addLast", desc := "(Ljava/lang/Object;)V" } : Jvm.MethodName)) ∈ lw_all := lw_g (lw_at lw_m4 231 rfl) rfl
theorem q1015 : (Jvm.Cond.code ({ cls := "java/util/LinkedList", name := "addLast", desc := "(Ljava/lang/Object;)V" } : Jvm.MethodName) prog_49_method_14_code (2 : Nat) (Option.none : Option Jvm.ClassFile.FieldType)) ∈ lw_all := lw_g (lw_at lw_m4 232 rfl) rfl
theorem q1016 : (Jvm.Cond.methodLink "java/util/LinkedList" (57 : Nat) ({ cls := "java/util/LinkedList", name := "linkLast", desc := "(Ljava/lang/Object;)V" } : Jvm.MethodName)) ∈ lw_all := lw_g (lw_at lw_m4 233 rfl) rfl
theorem q1017 : (Jvm.Cond.instanceMethod ({ cls := "java/util/LinkedList", name := "linkLast", desc := "(Ljava/lang/Object;)V" } : Jvm.MethodName)) ∈ lw_all := lw_g (lw_at lw_m4 234 rfl) rfl
theorem q1018 : (Jvm.Cond.selects "java/util/LinkedList" ({ cls := "java/util/LinkedList", name := "linkLast", desc := "(Ljava/lang/Object;)V" } : Jvm.MethodName) ({ cls := "java/util/LinkedList", name := "linkLast", desc := "(Ljava/lang/Object;)V" } : Jvm.MethodName)) ∈ lw_all := lw_g (lw_at lw_m4 235 rfl) rfl
theorem q1019 : (Jvm.Cond.code ({ cls := "java/util/LinkedList", name := "linkLast", desc := "(Ljava/lang/Object;)V" } : Jvm.MethodName) prog_49_method_4_code (4 : Nat) (Option.none : Option Jvm.ClassFile.FieldType)) ∈ lw_all := lw_g (lw_at lw_m4 236 rfl) rfl
theorem q1020 : (Jvm.Cond.classLink "java/util/LinkedList" (22 : Nat) "java/util/LinkedList$Node") ∈ lw_all := lw_g (lw_at lw_m4 237 rfl) rfl
theorem q1022 : (Jvm.Cond.methodLink "java/util/LinkedList" (24 : Nat) ({ cls := "java/util/LinkedList$Node", name := "<init>", desc := "(Ljava/util/LinkedList$Node;Ljava/lang/Object;Ljava/util/LinkedList$Node;)V" } : Jvm.MethodName)) ∈ lw_all := lw_g (lw_at lw_m4 239 rfl) rfl
theorem q1028 : (Jvm.Cond.fieldLink "java/util/LinkedList" (39 : Nat) "java/util/LinkedList$Node" "item" "Ljava/lang/Object;") ∈ lw_all := lw_g (lw_at lw_m5 5 rfl) rfl
theorem q1031 : (Jvm.Cond.fieldLink "java/util/LinkedList" (36 : Nat) "java/util/LinkedList$Node" "next" "Ljava/util/LinkedList$Node;") ∈ lw_all := lw_g (lw_at lw_m5 8 rfl) rfl
theorem q1033 : (Jvm.Cond.fieldLink "java/util/LinkedList" (30 : Nat) "java/util/LinkedList$Node" "prev" "Ljava/util/LinkedList$Node;") ∈ lw_all := lw_g (lw_at lw_m5 10 rfl) rfl
theorem q2243 : (Jvm.Cond.selects "java/util/LinkedList" ({ cls := "java/util/LinkedList", name := "size", desc := "()I" } : Jvm.MethodName) ({ cls := "java/util/LinkedList", name := "size", desc := "()I" } : Jvm.MethodName)) ∈ lw_all := lw_g (lw_at lw_m10 20 rfl) rfl
theorem q2244 : (Jvm.Cond.selects "java/util/LinkedList" ({ cls := "java/util/LinkedList", name := "get", desc := "(I)Ljava/lang/Object;" } : Jvm.MethodName) ({ cls := "java/util/LinkedList", name := "get", desc := "(I)Ljava/lang/Object;" } : Jvm.MethodName)) ∈ lw_all := lw_g (lw_at lw_m10 21 rfl) rfl
theorem q2256 : (Jvm.Cond.castable "java/util/LinkedList" "java/lang/Object") ∈ lw_tbl := lw_at lw_m10 33 rfl
theorem in_J4 : ∀ w ∈ wsJ40, w ∈ lw_all := lw_in wsJ40 [174, 168, 170, 172] (by decide +kernel) (by decide +kernel)

/-! java/util/BitSet -/
set_option maxRecDepth 100000
def RJ5 : String := "java/util/BitSet"
def TJ5 : u_T := fun k => match k with
  | 0 => ("java/util/BitSet", "words", "[J", false)
  | 1 => ("java/util/BitSet", "wordsInUse", "I", false)
  | _ => ("java/util/BitSet", "sizeIsSticky", "Z", false)
def tyJ5 : Nat → FieldType := fun k => match k with
  | 0 => .array .long
  | 1 => .int
  | _ => .boolean
abbrev wsJ50 : List Cond := u_ws RJ5 TJ5 3
theorem nmJ5 : ∀ a, a < 3 → ∀ b, b < 3 → a ≠ b → (TJ5 a).2.1 ≠ (TJ5 b).2.1 := by decide +kernel
theorem tyJ5_ok : ∀ k, k < 3 → parseFieldDescriptor (TJ5 k).2.2.1 = some (tyJ5 k) := by decide +kernel
abbrev cJ5_init : ByteArray := prog_45_method_5_code
def yJ5_init : MethodName := ⟨RJ5, "<init>", "(I)V"⟩
def dkwJ5_init_2 : List UInt8 := [27, 182, 0, 27, 42, 4, 181, 0, 24, 177]
abbrev dktJ5_init_2 : List UInt8 := dkwJ5_init_2 ++ []
def dkwJ5_init_1 : List UInt8 := [187, 0, 33, 89, 183, 0, 35, 18, 36, 182, 0, 38, 27, 182, 0, 42, 182, 0, 45, 183, 0, 49, 191, 42]
abbrev dktJ5_init_1 : List UInt8 := dkwJ5_init_1 ++ dktJ5_init_2
def dkwJ5_init_0 : List UInt8 := [42, 183, 0, 21, 42, 3, 181, 0, 7, 42, 3, 181, 0, 24, 27, 156, 0, 30, 187, 0, 31, 89]
abbrev dktJ5_init_0 : List UInt8 := dkwJ5_init_0 ++ dktJ5_init_1
theorem dksJ5_init_0 : cJ5_init.data.toList.drop 0 = dktJ5_init_0 := by decide +kernel
theorem dksJ5_init_1 : cJ5_init.data.toList.drop 22 = dktJ5_init_1 := dk_seg dksJ5_init_0 22 rfl rfl
theorem dksJ5_init_2 : cJ5_init.data.toList.drop 46 = dktJ5_init_2 := dk_seg dksJ5_init_1 24 rfl rfl
theorem dJ5_init_0 : decode cJ5_init 0 = .ok (.aload_n 0, 1) := dk_42 (dk_at dksJ5_init_0 0 rfl rfl)
theorem dJ5_init_1 : decode cJ5_init 1 = .ok (.invokespecial 21, 3) := dk_183 0 21 (dk_at dksJ5_init_0 1 rfl rfl)
theorem dJ5_init_4 : decode cJ5_init 4 = .ok (.aload_n 0, 1) := dk_42 (dk_at dksJ5_init_0 4 rfl rfl)
theorem dJ5_init_5 : decode cJ5_init 5 = .ok (.iconst 0, 1) := dk_3 (dk_at dksJ5_init_0 5 rfl rfl)
theorem dJ5_init_6 : decode cJ5_init 6 = .ok (.putfield 7, 3) := dk_181 0 7 (dk_at dksJ5_init_0 6 rfl rfl)
theorem dJ5_init_9 : decode cJ5_init 9 = .ok (.aload_n 0, 1) := dk_42 (dk_at dksJ5_init_0 9 rfl rfl)
theorem dJ5_init_10 : decode cJ5_init 10 = .ok (.iconst 0, 1) := dk_3 (dk_at dksJ5_init_0 10 rfl rfl)
theorem dJ5_init_11 : decode cJ5_init 11 = .ok (.putfield 24, 3) := dk_181 0 24 (dk_at dksJ5_init_0 11 rfl rfl)
theorem dJ5_init_14 : decode cJ5_init 14 = .ok (.iload_n 1, 1) := dk_27 (dk_at dksJ5_init_0 14 rfl rfl)
theorem dJ5_init_15 : decode cJ5_init 15 = .ok (.ifCond .ge 30, 3) := dk_156 0 30 (dk_at dksJ5_init_0 15 rfl rfl)
theorem dJ5_init_18 : decode cJ5_init 18 = .ok (.new 31, 3) := dk_187 0 31 (dk_at dksJ5_init_0 18 rfl rfl)
theorem dJ5_init_21 : decode cJ5_init 21 = .ok (.dup, 1) := dk_89 (dk_at dksJ5_init_0 21 rfl rfl)
theorem dJ5_init_22 : decode cJ5_init 22 = .ok (.new 33, 3) := dk_187 0 33 (dk_at dksJ5_init_1 0 rfl rfl)
theorem dJ5_init_25 : decode cJ5_init 25 = .ok (.dup, 1) := dk_89 (dk_at dksJ5_init_1 3 rfl rfl)
theorem dJ5_init_26 : decode cJ5_init 26 = .ok (.invokespecial 35, 3) := dk_183 0 35 (dk_at dksJ5_init_1 4 rfl rfl)
theorem dJ5_init_29 : decode cJ5_init 29 = .ok (.ldc 36, 2) := dk_18 36 (dk_at dksJ5_init_1 7 rfl rfl)
theorem dJ5_init_31 : decode cJ5_init 31 = .ok (.invokevirtual 38, 3) := dk_182 0 38 (dk_at dksJ5_init_1 9 rfl rfl)
theorem dJ5_init_34 : decode cJ5_init 34 = .ok (.iload_n 1, 1) := dk_27 (dk_at dksJ5_init_1 12 rfl rfl)
theorem dJ5_init_35 : decode cJ5_init 35 = .ok (.invokevirtual 42, 3) := dk_182 0 42 (dk_at dksJ5_init_1 13 rfl rfl)
theorem dJ5_init_38 : decode cJ5_init 38 = .ok (.invokevirtual 45, 3) := dk_182 0 45 (dk_at dksJ5_init_1 16 rfl rfl)
theorem dJ5_init_41 : decode cJ5_init 41 = .ok (.invokespecial 49, 3) := dk_183 0 49 (dk_at dksJ5_init_1 19 rfl rfl)
theorem dJ5_init_44 : decode cJ5_init 44 = .ok (.athrow, 1) := dk_191 (dk_at dksJ5_init_1 22 rfl rfl)
theorem dJ5_init_45 : decode cJ5_init 45 = .ok (.aload_n 0, 1) := dk_42 (dk_at dksJ5_init_1 23 rfl rfl)
theorem dJ5_init_46 : decode cJ5_init 46 = .ok (.iload_n 1, 1) := dk_27 (dk_at dksJ5_init_2 0 rfl rfl)
theorem dJ5_init_47 : decode cJ5_init 47 = .ok (.invokevirtual 27, 3) := dk_182 0 27 (dk_at dksJ5_init_2 1 rfl rfl)
theorem dJ5_init_50 : decode cJ5_init 50 = .ok (.aload_n 0, 1) := dk_42 (dk_at dksJ5_init_2 4 rfl rfl)
theorem dJ5_init_51 : decode cJ5_init 51 = .ok (.iconst 1, 1) := dk_4 (dk_at dksJ5_init_2 5 rfl rfl)
theorem dJ5_init_52 : decode cJ5_init 52 = .ok (.putfield 24, 3) := dk_181 0 24 (dk_at dksJ5_init_2 6 rfl rfl)
theorem dJ5_init_55 : decode cJ5_init 55 = .ok (.return_, 1) := dk_177 (dk_at dksJ5_init_2 9 rfl rfl)
abbrev cJ5_initWords : ByteArray := prog_45_method_6_code
def yJ5_initWords : MethodName := ⟨RJ5, "initWords", "(I)V"⟩
def dkwJ5_initWords_0 : List UInt8 := [42, 27, 4, 100, 184, 0, 52, 4, 96, 188, 11, 181, 0, 11, 177]
abbrev dktJ5_initWords_0 : List UInt8 := dkwJ5_initWords_0 ++ []
theorem dksJ5_initWords_0 : cJ5_initWords.data.toList.drop 0 = dktJ5_initWords_0 := by decide +kernel
theorem dJ5_initWords_0 : decode cJ5_initWords 0 = .ok (.aload_n 0, 1) := dk_42 (dk_at dksJ5_initWords_0 0 rfl rfl)
theorem dJ5_initWords_1 : decode cJ5_initWords 1 = .ok (.iload_n 1, 1) := dk_27 (dk_at dksJ5_initWords_0 1 rfl rfl)
theorem dJ5_initWords_2 : decode cJ5_initWords 2 = .ok (.iconst 1, 1) := dk_4 (dk_at dksJ5_initWords_0 2 rfl rfl)
theorem dJ5_initWords_3 : decode cJ5_initWords 3 = .ok (.isub, 1) := dk_100 (dk_at dksJ5_initWords_0 3 rfl rfl)
theorem dJ5_initWords_4 : decode cJ5_initWords 4 = .ok (.invokestatic 52, 3) := dk_184 0 52 (dk_at dksJ5_initWords_0 4 rfl rfl)
theorem dJ5_initWords_7 : decode cJ5_initWords 7 = .ok (.iconst 1, 1) := dk_4 (dk_at dksJ5_initWords_0 7 rfl rfl)
theorem dJ5_initWords_8 : decode cJ5_initWords 8 = .ok (.iadd, 1) := dk_96 (dk_at dksJ5_initWords_0 8 rfl rfl)
theorem dJ5_initWords_9 : decode cJ5_initWords 9 = .ok (.newarray .long, 2) := dk_188_11 (dk_at dksJ5_initWords_0 9 rfl rfl)
theorem dJ5_initWords_11 : decode cJ5_initWords 11 = .ok (.putfield 11, 3) := dk_181 0 11 (dk_at dksJ5_initWords_0 11 rfl rfl)
theorem dJ5_initWords_14 : decode cJ5_initWords 14 = .ok (.return_, 1) := dk_177 (dk_at dksJ5_initWords_0 14 rfl rfl)
abbrev cJ5_wordIndex : ByteArray := prog_45_method_1_code
def yJ5_wordIndex : MethodName := ⟨RJ5, "wordIndex", "(I)I"⟩
def dkwJ5_wordIndex_0 : List UInt8 := [26, 16, 6, 122, 172]
abbrev dktJ5_wordIndex_0 : List UInt8 := dkwJ5_wordIndex_0 ++ []
theorem dksJ5_wordIndex_0 : cJ5_wordIndex.data.toList.drop 0 = dktJ5_wordIndex_0 := by decide +kernel
theorem dJ5_wordIndex_0 : decode cJ5_wordIndex 0 = .ok (.iload_n 0, 1) := dk_26 (dk_at dksJ5_wordIndex_0 0 rfl rfl)
theorem dJ5_wordIndex_1 : decode cJ5_wordIndex 1 = .ok (.bipush 6, 2) := dk_16 6 (dk_at dksJ5_wordIndex_0 1 rfl rfl)
theorem dJ5_wordIndex_3 : decode cJ5_wordIndex 3 = .ok (.ishr, 1) := dk_122 (dk_at dksJ5_wordIndex_0 3 rfl rfl)
theorem dJ5_wordIndex_4 : decode cJ5_wordIndex 4 = .ok (.ireturn, 1) := dk_172 (dk_at dksJ5_wordIndex_0 4 rfl rfl)
abbrev cJ5_or : ByteArray := prog_45_method_37_code
def yJ5_or : MethodName := ⟨RJ5, "or", "(Ljava/util/BitSet;)V"⟩
def dkwJ5_or_4 : List UInt8 := [180, 0, 7, 28, 100, 184, 0, 199, 42, 182, 0, 56, 177]
abbrev dktJ5_or_4 : List UInt8 := dkwJ5_or_4 ++ []
def dkwJ5_or_3 : List UInt8 := [167, 255, 233, 28, 43, 180, 0, 7, 162, 0, 22, 43, 180, 0, 11, 28, 42, 180, 0, 11, 28, 42]
abbrev dktJ5_or_3 : List UInt8 := dkwJ5_or_3 ++ dktJ5_or_4
def dkwJ5_or_2 : List UInt8 := [29, 28, 162, 0, 24, 42, 180, 0, 11, 29, 92, 47, 43, 180, 0, 11, 29, 47, 129, 80, 132, 3, 1]
abbrev dktJ5_or_2 : List UInt8 := dkwJ5_or_2 ++ dktJ5_or_3
def dkwJ5_or_1 : List UInt8 := [180, 0, 7, 162, 0, 19, 42, 43, 180, 0, 7, 182, 0, 139, 42, 43, 180, 0, 7, 181, 0, 7, 3, 62]
abbrev dktJ5_or_1 : List UInt8 := dkwJ5_or_1 ++ dktJ5_or_2
def dkwJ5_or_0 : List UInt8 := [42, 43, 166, 0, 4, 177, 42, 180, 0, 7, 43, 180, 0, 7, 184, 0, 193, 61, 42, 180, 0, 7, 43]
abbrev dktJ5_or_0 : List UInt8 := dkwJ5_or_0 ++ dktJ5_or_1
theorem dksJ5_or_0 : cJ5_or.data.toList.drop 0 = dktJ5_or_0 := by decide +kernel
theorem dksJ5_or_1 : cJ5_or.data.toList.drop 23 = dktJ5_or_1 := dk_seg dksJ5_or_0 23 rfl rfl
theorem dksJ5_or_2 : cJ5_or.data.toList.drop 47 = dktJ5_or_2 := dk_seg dksJ5_or_1 24 rfl rfl
theorem dksJ5_or_3 : cJ5_or.data.toList.drop 70 = dktJ5_or_3 := dk_seg dksJ5_or_2 23 rfl rfl
theorem dksJ5_or_4 : cJ5_or.data.toList.drop 92 = dktJ5_or_4 := dk_seg dksJ5_or_3 22 rfl rfl
theorem dJ5_or_0 : decode cJ5_or 0 = .ok (.aload_n 0, 1) := dk_42 (dk_at dksJ5_or_0 0 rfl rfl)
theorem dJ5_or_1 : decode cJ5_or 1 = .ok (.aload_n 1, 1) := dk_43 (dk_at dksJ5_or_0 1 rfl rfl)
theorem dJ5_or_2 : decode cJ5_or 2 = .ok (.if_acmp .ne 4, 3) := dk_166 0 4 (dk_at dksJ5_or_0 2 rfl rfl)
theorem dJ5_or_5 : decode cJ5_or 5 = .ok (.return_, 1) := dk_177 (dk_at dksJ5_or_0 5 rfl rfl)
theorem dJ5_or_6 : decode cJ5_or 6 = .ok (.aload_n 0, 1) := dk_42 (dk_at dksJ5_or_0 6 rfl rfl)
theorem dJ5_or_7 : decode cJ5_or 7 = .ok (.getfield 7, 3) := dk_180 0 7 (dk_at dksJ5_or_0 7 rfl rfl)
theorem dJ5_or_10 : decode cJ5_or 10 = .ok (.aload_n 1, 1) := dk_43 (dk_at dksJ5_or_0 10 rfl rfl)
theorem dJ5_or_11 : decode cJ5_or 11 = .ok (.getfield 7, 3) := dk_180 0 7 (dk_at dksJ5_or_0 11 rfl rfl)
theorem dJ5_or_14 : decode cJ5_or 14 = .ok (.invokestatic 193, 3) := dk_184 0 193 (dk_at dksJ5_or_0 14 rfl rfl)
theorem dJ5_or_17 : decode cJ5_or 17 = .ok (.istore_n 2, 1) := dk_61 (dk_at dksJ5_or_0 17 rfl rfl)
theorem dJ5_or_18 : decode cJ5_or 18 = .ok (.aload_n 0, 1) := dk_42 (dk_at dksJ5_or_0 18 rfl rfl)
theorem dJ5_or_19 : decode cJ5_or 19 = .ok (.getfield 7, 3) := dk_180 0 7 (dk_at dksJ5_or_0 19 rfl rfl)
theorem dJ5_or_22 : decode cJ5_or 22 = .ok (.aload_n 1, 1) := dk_43 (dk_at dksJ5_or_0 22 rfl rfl)
theorem dJ5_or_23 : decode cJ5_or 23 = .ok (.getfield 7, 3) := dk_180 0 7 (dk_at dksJ5_or_1 0 rfl rfl)
theorem dJ5_or_26 : decode cJ5_or 26 = .ok (.if_icmp .ge 19, 3) := dk_162 0 19 (dk_at dksJ5_or_1 3 rfl rfl)
theorem dJ5_or_29 : decode cJ5_or 29 = .ok (.aload_n 0, 1) := dk_42 (dk_at dksJ5_or_1 6 rfl rfl)
theorem dJ5_or_30 : decode cJ5_or 30 = .ok (.aload_n 1, 1) := dk_43 (dk_at dksJ5_or_1 7 rfl rfl)
theorem dJ5_or_31 : decode cJ5_or 31 = .ok (.getfield 7, 3) := dk_180 0 7 (dk_at dksJ5_or_1 8 rfl rfl)
theorem dJ5_or_34 : decode cJ5_or 34 = .ok (.invokevirtual 139, 3) := dk_182 0 139 (dk_at dksJ5_or_1 11 rfl rfl)
theorem dJ5_or_37 : decode cJ5_or 37 = .ok (.aload_n 0, 1) := dk_42 (dk_at dksJ5_or_1 14 rfl rfl)
theorem dJ5_or_38 : decode cJ5_or 38 = .ok (.aload_n 1, 1) := dk_43 (dk_at dksJ5_or_1 15 rfl rfl)
theorem dJ5_or_39 : decode cJ5_or 39 = .ok (.getfield 7, 3) := dk_180 0 7 (dk_at dksJ5_or_1 16 rfl rfl)
theorem dJ5_or_42 : decode cJ5_or 42 = .ok (.putfield 7, 3) := dk_181 0 7 (dk_at dksJ5_or_1 19 rfl rfl)
theorem dJ5_or_45 : decode cJ5_or 45 = .ok (.iconst 0, 1) := dk_3 (dk_at dksJ5_or_1 22 rfl rfl)
theorem dJ5_or_46 : decode cJ5_or 46 = .ok (.istore_n 3, 1) := dk_62 (dk_at dksJ5_or_1 23 rfl rfl)
theorem dJ5_or_47 : decode cJ5_or 47 = .ok (.iload_n 3, 1) := dk_29 (dk_at dksJ5_or_2 0 rfl rfl)
theorem dJ5_or_48 : decode cJ5_or 48 = .ok (.iload_n 2, 1) := dk_28 (dk_at dksJ5_or_2 1 rfl rfl)
theorem dJ5_or_49 : decode cJ5_or 49 = .ok (.if_icmp .ge 24, 3) := dk_162 0 24 (dk_at dksJ5_or_2 2 rfl rfl)
theorem dJ5_or_52 : decode cJ5_or 52 = .ok (.aload_n 0, 1) := dk_42 (dk_at dksJ5_or_2 5 rfl rfl)
theorem dJ5_or_53 : decode cJ5_or 53 = .ok (.getfield 11, 3) := dk_180 0 11 (dk_at dksJ5_or_2 6 rfl rfl)
theorem dJ5_or_56 : decode cJ5_or 56 = .ok (.iload_n 3, 1) := dk_29 (dk_at dksJ5_or_2 9 rfl rfl)
theorem dJ5_or_57 : decode cJ5_or 57 = .ok (.dup2, 1) := dk_92 (dk_at dksJ5_or_2 10 rfl rfl)
theorem dJ5_or_58 : decode cJ5_or 58 = .ok (.laload, 1) := dk_47 (dk_at dksJ5_or_2 11 rfl rfl)
theorem dJ5_or_59 : decode cJ5_or 59 = .ok (.aload_n 1, 1) := dk_43 (dk_at dksJ5_or_2 12 rfl rfl)
theorem dJ5_or_60 : decode cJ5_or 60 = .ok (.getfield 11, 3) := dk_180 0 11 (dk_at dksJ5_or_2 13 rfl rfl)
theorem dJ5_or_63 : decode cJ5_or 63 = .ok (.iload_n 3, 1) := dk_29 (dk_at dksJ5_or_2 16 rfl rfl)
theorem dJ5_or_64 : decode cJ5_or 64 = .ok (.laload, 1) := dk_47 (dk_at dksJ5_or_2 17 rfl rfl)
theorem dJ5_or_65 : decode cJ5_or 65 = .ok (.lor, 1) := dk_129 (dk_at dksJ5_or_2 18 rfl rfl)
theorem dJ5_or_66 : decode cJ5_or 66 = .ok (.lastore, 1) := dk_80 (dk_at dksJ5_or_2 19 rfl rfl)
theorem dJ5_or_67 : decode cJ5_or 67 = .ok (.iinc 3 1, 3) := dk_132 3 1 (dk_at dksJ5_or_2 20 rfl rfl)
theorem dJ5_or_70 : decode cJ5_or 70 = .ok (.goto (-23), 3) := dk_167 255 233 (dk_at dksJ5_or_3 0 rfl rfl)
theorem dJ5_or_73 : decode cJ5_or 73 = .ok (.iload_n 2, 1) := dk_28 (dk_at dksJ5_or_3 3 rfl rfl)
theorem dJ5_or_74 : decode cJ5_or 74 = .ok (.aload_n 1, 1) := dk_43 (dk_at dksJ5_or_3 4 rfl rfl)
theorem dJ5_or_75 : decode cJ5_or 75 = .ok (.getfield 7, 3) := dk_180 0 7 (dk_at dksJ5_or_3 5 rfl rfl)
theorem dJ5_or_78 : decode cJ5_or 78 = .ok (.if_icmp .ge 22, 3) := dk_162 0 22 (dk_at dksJ5_or_3 8 rfl rfl)
theorem dJ5_or_81 : decode cJ5_or 81 = .ok (.aload_n 1, 1) := dk_43 (dk_at dksJ5_or_3 11 rfl rfl)
theorem dJ5_or_82 : decode cJ5_or 82 = .ok (.getfield 11, 3) := dk_180 0 11 (dk_at dksJ5_or_3 12 rfl rfl)
theorem dJ5_or_85 : decode cJ5_or 85 = .ok (.iload_n 2, 1) := dk_28 (dk_at dksJ5_or_3 15 rfl rfl)
theorem dJ5_or_86 : decode cJ5_or 86 = .ok (.aload_n 0, 1) := dk_42 (dk_at dksJ5_or_3 16 rfl rfl)
theorem dJ5_or_87 : decode cJ5_or 87 = .ok (.getfield 11, 3) := dk_180 0 11 (dk_at dksJ5_or_3 17 rfl rfl)
theorem dJ5_or_90 : decode cJ5_or 90 = .ok (.iload_n 2, 1) := dk_28 (dk_at dksJ5_or_3 20 rfl rfl)
theorem dJ5_or_91 : decode cJ5_or 91 = .ok (.aload_n 0, 1) := dk_42 (dk_at dksJ5_or_3 21 rfl rfl)
theorem dJ5_or_92 : decode cJ5_or 92 = .ok (.getfield 7, 3) := dk_180 0 7 (dk_at dksJ5_or_4 0 rfl rfl)
theorem dJ5_or_95 : decode cJ5_or 95 = .ok (.iload_n 2, 1) := dk_28 (dk_at dksJ5_or_4 3 rfl rfl)
theorem dJ5_or_96 : decode cJ5_or 96 = .ok (.isub, 1) := dk_100 (dk_at dksJ5_or_4 4 rfl rfl)
theorem dJ5_or_97 : decode cJ5_or 97 = .ok (.invokestatic 199, 3) := dk_184 0 199 (dk_at dksJ5_or_4 5 rfl rfl)
theorem dJ5_or_100 : decode cJ5_or 100 = .ok (.aload_n 0, 1) := dk_42 (dk_at dksJ5_or_4 8 rfl rfl)
theorem dJ5_or_101 : decode cJ5_or 101 = .ok (.invokevirtual 56, 3) := dk_182 0 56 (dk_at dksJ5_or_4 9 rfl rfl)
theorem dJ5_or_104 : decode cJ5_or 104 = .ok (.return_, 1) := dk_177 (dk_at dksJ5_or_4 12 rfl rfl)
abbrev cJ5_ensureCapacity : ByteArray := prog_45_method_14_code
def yJ5_ensureCapacity : MethodName := ⟨RJ5, "ensureCapacity", "(I)V"⟩
def dkwJ5_ensureCapacity_1 : List UInt8 := [180, 0, 11, 28, 184, 0, 59, 181, 0, 11, 42, 3, 181, 0, 24, 177]
abbrev dktJ5_ensureCapacity_1 : List UInt8 := dkwJ5_ensureCapacity_1 ++ []
def dkwJ5_ensureCapacity_0 : List UInt8 := [42, 180, 0, 11, 190, 27, 162, 0, 32, 5, 42, 180, 0, 11, 190, 104, 27, 184, 0, 133, 61, 42, 42]
abbrev dktJ5_ensureCapacity_0 : List UInt8 := dkwJ5_ensureCapacity_0 ++ dktJ5_ensureCapacity_1
theorem dksJ5_ensureCapacity_0 : cJ5_ensureCapacity.data.toList.drop 0 = dktJ5_ensureCapacity_0 := by decide +kernel
theorem dksJ5_ensureCapacity_1 : cJ5_ensureCapacity.data.toList.drop 23 = dktJ5_ensureCapacity_1 := dk_seg dksJ5_ensureCapacity_0 23 rfl rfl
theorem dJ5_ensureCapacity_0 : decode cJ5_ensureCapacity 0 = .ok (.aload_n 0, 1) := dk_42 (dk_at dksJ5_ensureCapacity_0 0 rfl rfl)
theorem dJ5_ensureCapacity_1 : decode cJ5_ensureCapacity 1 = .ok (.getfield 11, 3) := dk_180 0 11 (dk_at dksJ5_ensureCapacity_0 1 rfl rfl)
theorem dJ5_ensureCapacity_4 : decode cJ5_ensureCapacity 4 = .ok (.arraylength, 1) := dk_190 (dk_at dksJ5_ensureCapacity_0 4 rfl rfl)
theorem dJ5_ensureCapacity_5 : decode cJ5_ensureCapacity 5 = .ok (.iload_n 1, 1) := dk_27 (dk_at dksJ5_ensureCapacity_0 5 rfl rfl)
theorem dJ5_ensureCapacity_6 : decode cJ5_ensureCapacity 6 = .ok (.if_icmp .ge 32, 3) := dk_162 0 32 (dk_at dksJ5_ensureCapacity_0 6 rfl rfl)
theorem dJ5_ensureCapacity_9 : decode cJ5_ensureCapacity 9 = .ok (.iconst 2, 1) := dk_5 (dk_at dksJ5_ensureCapacity_0 9 rfl rfl)
theorem dJ5_ensureCapacity_10 : decode cJ5_ensureCapacity 10 = .ok (.aload_n 0, 1) := dk_42 (dk_at dksJ5_ensureCapacity_0 10 rfl rfl)
theorem dJ5_ensureCapacity_11 : decode cJ5_ensureCapacity 11 = .ok (.getfield 11, 3) := dk_180 0 11 (dk_at dksJ5_ensureCapacity_0 11 rfl rfl)
theorem dJ5_ensureCapacity_14 : decode cJ5_ensureCapacity 14 = .ok (.arraylength, 1) := dk_190 (dk_at dksJ5_ensureCapacity_0 14 rfl rfl)
theorem dJ5_ensureCapacity_15 : decode cJ5_ensureCapacity 15 = .ok (.imul, 1) := dk_104 (dk_at dksJ5_ensureCapacity_0 15 rfl rfl)
theorem dJ5_ensureCapacity_16 : decode cJ5_ensureCapacity 16 = .ok (.iload_n 1, 1) := dk_27 (dk_at dksJ5_ensureCapacity_0 16 rfl rfl)
theorem dJ5_ensureCapacity_17 : decode cJ5_ensureCapacity 17 = .ok (.invokestatic 133, 3) := dk_184 0 133 (dk_at dksJ5_ensureCapacity_0 17 rfl rfl)
theorem dJ5_ensureCapacity_20 : decode cJ5_ensureCapacity 20 = .ok (.istore_n 2, 1) := dk_61 (dk_at dksJ5_ensureCapacity_0 20 rfl rfl)
theorem dJ5_ensureCapacity_21 : decode cJ5_ensureCapacity 21 = .ok (.aload_n 0, 1) := dk_42 (dk_at dksJ5_ensureCapacity_0 21 rfl rfl)
theorem dJ5_ensureCapacity_22 : decode cJ5_ensureCapacity 22 = .ok (.aload_n 0, 1) := dk_42 (dk_at dksJ5_ensureCapacity_0 22 rfl rfl)
theorem dJ5_ensureCapacity_23 : decode cJ5_ensureCapacity 23 = .ok (.getfield 11, 3) := dk_180 0 11 (dk_at dksJ5_ensureCapacity_1 0 rfl rfl)
theorem dJ5_ensureCapacity_26 : decode cJ5_ensureCapacity 26 = .ok (.iload_n 2, 1) := dk_28 (dk_at dksJ5_ensureCapacity_1 3 rfl rfl)
theorem dJ5_ensureCapacity_27 : decode cJ5_ensureCapacity 27 = .ok (.invokestatic 59, 3) := dk_184 0 59 (dk_at dksJ5_ensureCapacity_1 4 rfl rfl)
theorem dJ5_ensureCapacity_30 : decode cJ5_ensureCapacity 30 = .ok (.putfield 11, 3) := dk_181 0 11 (dk_at dksJ5_ensureCapacity_1 7 rfl rfl)
theorem dJ5_ensureCapacity_33 : decode cJ5_ensureCapacity 33 = .ok (.aload_n 0, 1) := dk_42 (dk_at dksJ5_ensureCapacity_1 10 rfl rfl)
theorem dJ5_ensureCapacity_34 : decode cJ5_ensureCapacity 34 = .ok (.iconst 0, 1) := dk_3 (dk_at dksJ5_ensureCapacity_1 11 rfl rfl)
theorem dJ5_ensureCapacity_35 : decode cJ5_ensureCapacity 35 = .ok (.putfield 24, 3) := dk_181 0 24 (dk_at dksJ5_ensureCapacity_1 12 rfl rfl)
theorem dJ5_ensureCapacity_38 : decode cJ5_ensureCapacity 38 = .ok (.return_, 1) := dk_177 (dk_at dksJ5_ensureCapacity_1 15 rfl rfl)
abbrev cJ5_checkInvariants : ByteArray := prog_45_method_2_code
def yJ5_checkInvariants : MethodName := ⟨RJ5, "checkInvariants", "()V"⟩
def dkwJ5_checkInvariants_4 : List UInt8 := [180, 0, 7, 47, 9, 148, 153, 0, 11, 187, 0, 15, 89, 183, 0, 17, 191, 177]
abbrev dktJ5_checkInvariants_4 : List UInt8 := dkwJ5_checkInvariants_4 ++ []
def dkwJ5_checkInvariants_3 : List UInt8 := [178, 0, 3, 154, 0, 37, 42, 180, 0, 7, 42, 180, 0, 11, 190, 159, 0, 25, 42, 180, 0, 11, 42]
abbrev dktJ5_checkInvariants_3 : List UInt8 := dkwJ5_checkInvariants_3 ++ dktJ5_checkInvariants_4
def dkwJ5_checkInvariants_2 : List UInt8 := [155, 0, 15, 42, 180, 0, 7, 42, 180, 0, 11, 190, 164, 0, 11, 187, 0, 15, 89, 183, 0, 17, 191]
abbrev dktJ5_checkInvariants_2 : List UInt8 := dkwJ5_checkInvariants_2 ++ dktJ5_checkInvariants_3
def dkwJ5_checkInvariants_1 : List UInt8 := [9, 148, 154, 0, 11, 187, 0, 15, 89, 183, 0, 17, 191, 178, 0, 3, 154, 0, 30, 42, 180, 0, 7]
abbrev dktJ5_checkInvariants_1 : List UInt8 := dkwJ5_checkInvariants_1 ++ dktJ5_checkInvariants_2
def dkwJ5_checkInvariants_0 : List UInt8 := [178, 0, 3, 154, 0, 34, 42, 180, 0, 7, 153, 0, 27, 42, 180, 0, 11, 42, 180, 0, 7, 4, 100, 47]
abbrev dktJ5_checkInvariants_0 : List UInt8 := dkwJ5_checkInvariants_0 ++ dktJ5_checkInvariants_1
theorem dksJ5_checkInvariants_0 : cJ5_checkInvariants.data.toList.drop 0 = dktJ5_checkInvariants_0 := by decide +kernel
theorem dksJ5_checkInvariants_1 : cJ5_checkInvariants.data.toList.drop 24 = dktJ5_checkInvariants_1 := dk_seg dksJ5_checkInvariants_0 24 rfl rfl
theorem dksJ5_checkInvariants_2 : cJ5_checkInvariants.data.toList.drop 47 = dktJ5_checkInvariants_2 := dk_seg dksJ5_checkInvariants_1 23 rfl rfl
theorem dksJ5_checkInvariants_3 : cJ5_checkInvariants.data.toList.drop 70 = dktJ5_checkInvariants_3 := dk_seg dksJ5_checkInvariants_2 23 rfl rfl
theorem dksJ5_checkInvariants_4 : cJ5_checkInvariants.data.toList.drop 93 = dktJ5_checkInvariants_4 := dk_seg dksJ5_checkInvariants_3 23 rfl rfl
theorem dJ5_checkInvariants_0 : decode cJ5_checkInvariants 0 = .ok (.getstatic 3, 3) := dk_178 0 3 (dk_at dksJ5_checkInvariants_0 0 rfl rfl)
theorem dJ5_checkInvariants_3 : decode cJ5_checkInvariants 3 = .ok (.ifCond .ne 34, 3) := dk_154 0 34 (dk_at dksJ5_checkInvariants_0 3 rfl rfl)
theorem dJ5_checkInvariants_6 : decode cJ5_checkInvariants 6 = .ok (.aload_n 0, 1) := dk_42 (dk_at dksJ5_checkInvariants_0 6 rfl rfl)
theorem dJ5_checkInvariants_7 : decode cJ5_checkInvariants 7 = .ok (.getfield 7, 3) := dk_180 0 7 (dk_at dksJ5_checkInvariants_0 7 rfl rfl)
theorem dJ5_checkInvariants_10 : decode cJ5_checkInvariants 10 = .ok (.ifCond .eq 27, 3) := dk_153 0 27 (dk_at dksJ5_checkInvariants_0 10 rfl rfl)
theorem dJ5_checkInvariants_13 : decode cJ5_checkInvariants 13 = .ok (.aload_n 0, 1) := dk_42 (dk_at dksJ5_checkInvariants_0 13 rfl rfl)
theorem dJ5_checkInvariants_14 : decode cJ5_checkInvariants 14 = .ok (.getfield 11, 3) := dk_180 0 11 (dk_at dksJ5_checkInvariants_0 14 rfl rfl)
theorem dJ5_checkInvariants_17 : decode cJ5_checkInvariants 17 = .ok (.aload_n 0, 1) := dk_42 (dk_at dksJ5_checkInvariants_0 17 rfl rfl)
theorem dJ5_checkInvariants_18 : decode cJ5_checkInvariants 18 = .ok (.getfield 7, 3) := dk_180 0 7 (dk_at dksJ5_checkInvariants_0 18 rfl rfl)
theorem dJ5_checkInvariants_21 : decode cJ5_checkInvariants 21 = .ok (.iconst 1, 1) := dk_4 (dk_at dksJ5_checkInvariants_0 21 rfl rfl)
theorem dJ5_checkInvariants_22 : decode cJ5_checkInvariants 22 = .ok (.isub, 1) := dk_100 (dk_at dksJ5_checkInvariants_0 22 rfl rfl)
theorem dJ5_checkInvariants_23 : decode cJ5_checkInvariants 23 = .ok (.laload, 1) := dk_47 (dk_at dksJ5_checkInvariants_0 23 rfl rfl)
theorem dJ5_checkInvariants_24 : decode cJ5_checkInvariants 24 = .ok (.lconst 0, 1) := dk_9 (dk_at dksJ5_checkInvariants_1 0 rfl rfl)
theorem dJ5_checkInvariants_25 : decode cJ5_checkInvariants 25 = .ok (.lcmp, 1) := dk_148 (dk_at dksJ5_checkInvariants_1 1 rfl rfl)
theorem dJ5_checkInvariants_26 : decode cJ5_checkInvariants 26 = .ok (.ifCond .ne 11, 3) := dk_154 0 11 (dk_at dksJ5_checkInvariants_1 2 rfl rfl)
theorem dJ5_checkInvariants_29 : decode cJ5_checkInvariants 29 = .ok (.new 15, 3) := dk_187 0 15 (dk_at dksJ5_checkInvariants_1 5 rfl rfl)
theorem dJ5_checkInvariants_32 : decode cJ5_checkInvariants 32 = .ok (.dup, 1) := dk_89 (dk_at dksJ5_checkInvariants_1 8 rfl rfl)
theorem dJ5_checkInvariants_33 : decode cJ5_checkInvariants 33 = .ok (.invokespecial 17, 3) := dk_183 0 17 (dk_at dksJ5_checkInvariants_1 9 rfl rfl)
theorem dJ5_checkInvariants_36 : decode cJ5_checkInvariants 36 = .ok (.athrow, 1) := dk_191 (dk_at dksJ5_checkInvariants_1 12 rfl rfl)
theorem dJ5_checkInvariants_37 : decode cJ5_checkInvariants 37 = .ok (.getstatic 3, 3) := dk_178 0 3 (dk_at dksJ5_checkInvariants_1 13 rfl rfl)
theorem dJ5_checkInvariants_40 : decode cJ5_checkInvariants 40 = .ok (.ifCond .ne 30, 3) := dk_154 0 30 (dk_at dksJ5_checkInvariants_1 16 rfl rfl)
theorem dJ5_checkInvariants_43 : decode cJ5_checkInvariants 43 = .ok (.aload_n 0, 1) := dk_42 (dk_at dksJ5_checkInvariants_1 19 rfl rfl)
theorem dJ5_checkInvariants_44 : decode cJ5_checkInvariants 44 = .ok (.getfield 7, 3) := dk_180 0 7 (dk_at dksJ5_checkInvariants_1 20 rfl rfl)
theorem dJ5_checkInvariants_47 : decode cJ5_checkInvariants 47 = .ok (.ifCond .lt 15, 3) := dk_155 0 15 (dk_at dksJ5_checkInvariants_2 0 rfl rfl)
theorem dJ5_checkInvariants_50 : decode cJ5_checkInvariants 50 = .ok (.aload_n 0, 1) := dk_42 (dk_at dksJ5_checkInvariants_2 3 rfl rfl)
theorem dJ5_checkInvariants_51 : decode cJ5_checkInvariants 51 = .ok (.getfield 7, 3) := dk_180 0 7 (dk_at dksJ5_checkInvariants_2 4 rfl rfl)
theorem dJ5_checkInvariants_54 : decode cJ5_checkInvariants 54 = .ok (.aload_n 0, 1) := dk_42 (dk_at dksJ5_checkInvariants_2 7 rfl rfl)
theorem dJ5_checkInvariants_55 : decode cJ5_checkInvariants 55 = .ok (.getfield 11, 3) := dk_180 0 11 (dk_at dksJ5_checkInvariants_2 8 rfl rfl)
theorem dJ5_checkInvariants_58 : decode cJ5_checkInvariants 58 = .ok (.arraylength, 1) := dk_190 (dk_at dksJ5_checkInvariants_2 11 rfl rfl)
theorem dJ5_checkInvariants_59 : decode cJ5_checkInvariants 59 = .ok (.if_icmp .le 11, 3) := dk_164 0 11 (dk_at dksJ5_checkInvariants_2 12 rfl rfl)
theorem dJ5_checkInvariants_62 : decode cJ5_checkInvariants 62 = .ok (.new 15, 3) := dk_187 0 15 (dk_at dksJ5_checkInvariants_2 15 rfl rfl)
theorem dJ5_checkInvariants_65 : decode cJ5_checkInvariants 65 = .ok (.dup, 1) := dk_89 (dk_at dksJ5_checkInvariants_2 18 rfl rfl)
theorem dJ5_checkInvariants_66 : decode cJ5_checkInvariants 66 = .ok (.invokespecial 17, 3) := dk_183 0 17 (dk_at dksJ5_checkInvariants_2 19 rfl rfl)
theorem dJ5_checkInvariants_69 : decode cJ5_checkInvariants 69 = .ok (.athrow, 1) := dk_191 (dk_at dksJ5_checkInvariants_2 22 rfl rfl)
theorem dJ5_checkInvariants_70 : decode cJ5_checkInvariants 70 = .ok (.getstatic 3, 3) := dk_178 0 3 (dk_at dksJ5_checkInvariants_3 0 rfl rfl)
theorem dJ5_checkInvariants_73 : decode cJ5_checkInvariants 73 = .ok (.ifCond .ne 37, 3) := dk_154 0 37 (dk_at dksJ5_checkInvariants_3 3 rfl rfl)
theorem dJ5_checkInvariants_76 : decode cJ5_checkInvariants 76 = .ok (.aload_n 0, 1) := dk_42 (dk_at dksJ5_checkInvariants_3 6 rfl rfl)
theorem dJ5_checkInvariants_77 : decode cJ5_checkInvariants 77 = .ok (.getfield 7, 3) := dk_180 0 7 (dk_at dksJ5_checkInvariants_3 7 rfl rfl)
theorem dJ5_checkInvariants_80 : decode cJ5_checkInvariants 80 = .ok (.aload_n 0, 1) := dk_42 (dk_at dksJ5_checkInvariants_3 10 rfl rfl)
theorem dJ5_checkInvariants_81 : decode cJ5_checkInvariants 81 = .ok (.getfield 11, 3) := dk_180 0 11 (dk_at dksJ5_checkInvariants_3 11 rfl rfl)
theorem dJ5_checkInvariants_84 : decode cJ5_checkInvariants 84 = .ok (.arraylength, 1) := dk_190 (dk_at dksJ5_checkInvariants_3 14 rfl rfl)
theorem dJ5_checkInvariants_85 : decode cJ5_checkInvariants 85 = .ok (.if_icmp .eq 25, 3) := dk_159 0 25 (dk_at dksJ5_checkInvariants_3 15 rfl rfl)
theorem dJ5_checkInvariants_88 : decode cJ5_checkInvariants 88 = .ok (.aload_n 0, 1) := dk_42 (dk_at dksJ5_checkInvariants_3 18 rfl rfl)
theorem dJ5_checkInvariants_89 : decode cJ5_checkInvariants 89 = .ok (.getfield 11, 3) := dk_180 0 11 (dk_at dksJ5_checkInvariants_3 19 rfl rfl)
theorem dJ5_checkInvariants_92 : decode cJ5_checkInvariants 92 = .ok (.aload_n 0, 1) := dk_42 (dk_at dksJ5_checkInvariants_3 22 rfl rfl)
theorem dJ5_checkInvariants_93 : decode cJ5_checkInvariants 93 = .ok (.getfield 7, 3) := dk_180 0 7 (dk_at dksJ5_checkInvariants_4 0 rfl rfl)
theorem dJ5_checkInvariants_96 : decode cJ5_checkInvariants 96 = .ok (.laload, 1) := dk_47 (dk_at dksJ5_checkInvariants_4 3 rfl rfl)
theorem dJ5_checkInvariants_97 : decode cJ5_checkInvariants 97 = .ok (.lconst 0, 1) := dk_9 (dk_at dksJ5_checkInvariants_4 4 rfl rfl)
theorem dJ5_checkInvariants_98 : decode cJ5_checkInvariants 98 = .ok (.lcmp, 1) := dk_148 (dk_at dksJ5_checkInvariants_4 5 rfl rfl)
theorem dJ5_checkInvariants_99 : decode cJ5_checkInvariants 99 = .ok (.ifCond .eq 11, 3) := dk_153 0 11 (dk_at dksJ5_checkInvariants_4 6 rfl rfl)
theorem dJ5_checkInvariants_102 : decode cJ5_checkInvariants 102 = .ok (.new 15, 3) := dk_187 0 15 (dk_at dksJ5_checkInvariants_4 9 rfl rfl)
theorem dJ5_checkInvariants_105 : decode cJ5_checkInvariants 105 = .ok (.dup, 1) := dk_89 (dk_at dksJ5_checkInvariants_4 12 rfl rfl)
theorem dJ5_checkInvariants_106 : decode cJ5_checkInvariants 106 = .ok (.invokespecial 17, 3) := dk_183 0 17 (dk_at dksJ5_checkInvariants_4 13 rfl rfl)
theorem dJ5_checkInvariants_109 : decode cJ5_checkInvariants 109 = .ok (.athrow, 1) := dk_191 (dk_at dksJ5_checkInvariants_4 16 rfl rfl)
theorem dJ5_checkInvariants_110 : decode cJ5_checkInvariants 110 = .ok (.return_, 1) := dk_177 (dk_at dksJ5_checkInvariants_4 17 rfl rfl)
abbrev cJ5_nextSetBit : ByteArray := prog_45_method_28_code
def yJ5_nextSetBit : MethodName := ⟨RJ5, "nextSetBit", "(I)I"⟩
def dkwJ5_nextSetBit_4 : List UInt8 := [28, 47, 66, 167, 255, 220]
abbrev dktJ5_nextSetBit_4 : List UInt8 := dkwJ5_nextSetBit_4 ++ []
def dkwJ5_nextSetBit_3 : List UInt8 := [104, 33, 184, 0, 182, 96, 172, 132, 2, 1, 28, 42, 180, 0, 7, 160, 0, 5, 2, 172, 42, 180, 0, 11]
abbrev dktJ5_nextSetBit_3 : List UInt8 := dkwJ5_nextSetBit_3 ++ dktJ5_nextSetBit_4
def dkwJ5_nextSetBit_2 : List UInt8 := [2, 172, 42, 180, 0, 11, 28, 47, 20, 0, 165, 27, 121, 127, 66, 33, 9, 148, 153, 0, 13, 28, 16, 64]
abbrev dktJ5_nextSetBit_2 : List UInt8 := dkwJ5_nextSetBit_2 ++ dktJ5_nextSetBit_3
def dkwJ5_nextSetBit_1 : List UInt8 := [182, 0, 45, 183, 0, 146, 191, 42, 182, 0, 56, 27, 184, 0, 52, 61, 28, 42, 180, 0, 7, 161, 0, 5]
abbrev dktJ5_nextSetBit_1 : List UInt8 := dkwJ5_nextSetBit_1 ++ dktJ5_nextSetBit_2
def dkwJ5_nextSetBit_0 : List UInt8 := [27, 156, 0, 30, 187, 0, 142, 89, 187, 0, 33, 89, 183, 0, 35, 18, 144, 182, 0, 38, 27, 182, 0, 42]
abbrev dktJ5_nextSetBit_0 : List UInt8 := dkwJ5_nextSetBit_0 ++ dktJ5_nextSetBit_1
theorem dksJ5_nextSetBit_0 : cJ5_nextSetBit.data.toList.drop 0 = dktJ5_nextSetBit_0 := by decide +kernel
theorem dksJ5_nextSetBit_1 : cJ5_nextSetBit.data.toList.drop 24 = dktJ5_nextSetBit_1 := dk_seg dksJ5_nextSetBit_0 24 rfl rfl
theorem dksJ5_nextSetBit_2 : cJ5_nextSetBit.data.toList.drop 48 = dktJ5_nextSetBit_2 := dk_seg dksJ5_nextSetBit_1 24 rfl rfl
theorem dksJ5_nextSetBit_3 : cJ5_nextSetBit.data.toList.drop 72 = dktJ5_nextSetBit_3 := dk_seg dksJ5_nextSetBit_2 24 rfl rfl
theorem dksJ5_nextSetBit_4 : cJ5_nextSetBit.data.toList.drop 96 = dktJ5_nextSetBit_4 := dk_seg dksJ5_nextSetBit_3 24 rfl rfl
theorem dJ5_nextSetBit_0 : decode cJ5_nextSetBit 0 = .ok (.iload_n 1, 1) := dk_27 (dk_at dksJ5_nextSetBit_0 0 rfl rfl)
theorem dJ5_nextSetBit_1 : decode cJ5_nextSetBit 1 = .ok (.ifCond .ge 30, 3) := dk_156 0 30 (dk_at dksJ5_nextSetBit_0 1 rfl rfl)
theorem dJ5_nextSetBit_4 : decode cJ5_nextSetBit 4 = .ok (.new 142, 3) := dk_187 0 142 (dk_at dksJ5_nextSetBit_0 4 rfl rfl)
theorem dJ5_nextSetBit_7 : decode cJ5_nextSetBit 7 = .ok (.dup, 1) := dk_89 (dk_at dksJ5_nextSetBit_0 7 rfl rfl)
theorem dJ5_nextSetBit_8 : decode cJ5_nextSetBit 8 = .ok (.new 33, 3) := dk_187 0 33 (dk_at dksJ5_nextSetBit_0 8 rfl rfl)
theorem dJ5_nextSetBit_11 : decode cJ5_nextSetBit 11 = .ok (.dup, 1) := dk_89 (dk_at dksJ5_nextSetBit_0 11 rfl rfl)
theorem dJ5_nextSetBit_12 : decode cJ5_nextSetBit 12 = .ok (.invokespecial 35, 3) := dk_183 0 35 (dk_at dksJ5_nextSetBit_0 12 rfl rfl)
theorem dJ5_nextSetBit_15 : decode cJ5_nextSetBit 15 = .ok (.ldc 144, 2) := dk_18 144 (dk_at dksJ5_nextSetBit_0 15 rfl rfl)
theorem dJ5_nextSetBit_17 : decode cJ5_nextSetBit 17 = .ok (.invokevirtual 38, 3) := dk_182 0 38 (dk_at dksJ5_nextSetBit_0 17 rfl rfl)
theorem dJ5_nextSetBit_20 : decode cJ5_nextSetBit 20 = .ok (.iload_n 1, 1) := dk_27 (dk_at dksJ5_nextSetBit_0 20 rfl rfl)
theorem dJ5_nextSetBit_21 : decode cJ5_nextSetBit 21 = .ok (.invokevirtual 42, 3) := dk_182 0 42 (dk_at dksJ5_nextSetBit_0 21 rfl rfl)
theorem dJ5_nextSetBit_24 : decode cJ5_nextSetBit 24 = .ok (.invokevirtual 45, 3) := dk_182 0 45 (dk_at dksJ5_nextSetBit_1 0 rfl rfl)
theorem dJ5_nextSetBit_27 : decode cJ5_nextSetBit 27 = .ok (.invokespecial 146, 3) := dk_183 0 146 (dk_at dksJ5_nextSetBit_1 3 rfl rfl)
theorem dJ5_nextSetBit_30 : decode cJ5_nextSetBit 30 = .ok (.athrow, 1) := dk_191 (dk_at dksJ5_nextSetBit_1 6 rfl rfl)
theorem dJ5_nextSetBit_31 : decode cJ5_nextSetBit 31 = .ok (.aload_n 0, 1) := dk_42 (dk_at dksJ5_nextSetBit_1 7 rfl rfl)
theorem dJ5_nextSetBit_32 : decode cJ5_nextSetBit 32 = .ok (.invokevirtual 56, 3) := dk_182 0 56 (dk_at dksJ5_nextSetBit_1 8 rfl rfl)
theorem dJ5_nextSetBit_35 : decode cJ5_nextSetBit 35 = .ok (.iload_n 1, 1) := dk_27 (dk_at dksJ5_nextSetBit_1 11 rfl rfl)
theorem dJ5_nextSetBit_36 : decode cJ5_nextSetBit 36 = .ok (.invokestatic 52, 3) := dk_184 0 52 (dk_at dksJ5_nextSetBit_1 12 rfl rfl)
theorem dJ5_nextSetBit_39 : decode cJ5_nextSetBit 39 = .ok (.istore_n 2, 1) := dk_61 (dk_at dksJ5_nextSetBit_1 15 rfl rfl)
theorem dJ5_nextSetBit_40 : decode cJ5_nextSetBit 40 = .ok (.iload_n 2, 1) := dk_28 (dk_at dksJ5_nextSetBit_1 16 rfl rfl)
theorem dJ5_nextSetBit_41 : decode cJ5_nextSetBit 41 = .ok (.aload_n 0, 1) := dk_42 (dk_at dksJ5_nextSetBit_1 17 rfl rfl)
theorem dJ5_nextSetBit_42 : decode cJ5_nextSetBit 42 = .ok (.getfield 7, 3) := dk_180 0 7 (dk_at dksJ5_nextSetBit_1 18 rfl rfl)
theorem dJ5_nextSetBit_45 : decode cJ5_nextSetBit 45 = .ok (.if_icmp .lt 5, 3) := dk_161 0 5 (dk_at dksJ5_nextSetBit_1 21 rfl rfl)
theorem dJ5_nextSetBit_48 : decode cJ5_nextSetBit 48 = .ok (.iconst (-1), 1) := dk_2 (dk_at dksJ5_nextSetBit_2 0 rfl rfl)
theorem dJ5_nextSetBit_49 : decode cJ5_nextSetBit 49 = .ok (.ireturn, 1) := dk_172 (dk_at dksJ5_nextSetBit_2 1 rfl rfl)
theorem dJ5_nextSetBit_50 : decode cJ5_nextSetBit 50 = .ok (.aload_n 0, 1) := dk_42 (dk_at dksJ5_nextSetBit_2 2 rfl rfl)
theorem dJ5_nextSetBit_51 : decode cJ5_nextSetBit 51 = .ok (.getfield 11, 3) := dk_180 0 11 (dk_at dksJ5_nextSetBit_2 3 rfl rfl)
theorem dJ5_nextSetBit_54 : decode cJ5_nextSetBit 54 = .ok (.iload_n 2, 1) := dk_28 (dk_at dksJ5_nextSetBit_2 6 rfl rfl)
theorem dJ5_nextSetBit_55 : decode cJ5_nextSetBit 55 = .ok (.laload, 1) := dk_47 (dk_at dksJ5_nextSetBit_2 7 rfl rfl)
theorem dJ5_nextSetBit_56 : decode cJ5_nextSetBit 56 = .ok (.ldc2_w 165, 3) := dk_20 0 165 (dk_at dksJ5_nextSetBit_2 8 rfl rfl)
theorem dJ5_nextSetBit_59 : decode cJ5_nextSetBit 59 = .ok (.iload_n 1, 1) := dk_27 (dk_at dksJ5_nextSetBit_2 11 rfl rfl)
theorem dJ5_nextSetBit_60 : decode cJ5_nextSetBit 60 = .ok (.lshl, 1) := dk_121 (dk_at dksJ5_nextSetBit_2 12 rfl rfl)
theorem dJ5_nextSetBit_61 : decode cJ5_nextSetBit 61 = .ok (.land, 1) := dk_127 (dk_at dksJ5_nextSetBit_2 13 rfl rfl)
theorem dJ5_nextSetBit_62 : decode cJ5_nextSetBit 62 = .ok (.lstore_n 3, 1) := dk_66 (dk_at dksJ5_nextSetBit_2 14 rfl rfl)
theorem dJ5_nextSetBit_63 : decode cJ5_nextSetBit 63 = .ok (.lload_n 3, 1) := dk_33 (dk_at dksJ5_nextSetBit_2 15 rfl rfl)
theorem dJ5_nextSetBit_64 : decode cJ5_nextSetBit 64 = .ok (.lconst 0, 1) := dk_9 (dk_at dksJ5_nextSetBit_2 16 rfl rfl)
theorem dJ5_nextSetBit_65 : decode cJ5_nextSetBit 65 = .ok (.lcmp, 1) := dk_148 (dk_at dksJ5_nextSetBit_2 17 rfl rfl)
theorem dJ5_nextSetBit_66 : decode cJ5_nextSetBit 66 = .ok (.ifCond .eq 13, 3) := dk_153 0 13 (dk_at dksJ5_nextSetBit_2 18 rfl rfl)
theorem dJ5_nextSetBit_69 : decode cJ5_nextSetBit 69 = .ok (.iload_n 2, 1) := dk_28 (dk_at dksJ5_nextSetBit_2 21 rfl rfl)
theorem dJ5_nextSetBit_70 : decode cJ5_nextSetBit 70 = .ok (.bipush 64, 2) := dk_16 64 (dk_at dksJ5_nextSetBit_2 22 rfl rfl)
theorem dJ5_nextSetBit_72 : decode cJ5_nextSetBit 72 = .ok (.imul, 1) := dk_104 (dk_at dksJ5_nextSetBit_3 0 rfl rfl)
theorem dJ5_nextSetBit_73 : decode cJ5_nextSetBit 73 = .ok (.lload_n 3, 1) := dk_33 (dk_at dksJ5_nextSetBit_3 1 rfl rfl)
theorem dJ5_nextSetBit_74 : decode cJ5_nextSetBit 74 = .ok (.invokestatic 182, 3) := dk_184 0 182 (dk_at dksJ5_nextSetBit_3 2 rfl rfl)
theorem dJ5_nextSetBit_77 : decode cJ5_nextSetBit 77 = .ok (.iadd, 1) := dk_96 (dk_at dksJ5_nextSetBit_3 5 rfl rfl)
theorem dJ5_nextSetBit_78 : decode cJ5_nextSetBit 78 = .ok (.ireturn, 1) := dk_172 (dk_at dksJ5_nextSetBit_3 6 rfl rfl)
theorem dJ5_nextSetBit_79 : decode cJ5_nextSetBit 79 = .ok (.iinc 2 1, 3) := dk_132 2 1 (dk_at dksJ5_nextSetBit_3 7 rfl rfl)
theorem dJ5_nextSetBit_82 : decode cJ5_nextSetBit 82 = .ok (.iload_n 2, 1) := dk_28 (dk_at dksJ5_nextSetBit_3 10 rfl rfl)
theorem dJ5_nextSetBit_83 : decode cJ5_nextSetBit 83 = .ok (.aload_n 0, 1) := dk_42 (dk_at dksJ5_nextSetBit_3 11 rfl rfl)
theorem dJ5_nextSetBit_84 : decode cJ5_nextSetBit 84 = .ok (.getfield 7, 3) := dk_180 0 7 (dk_at dksJ5_nextSetBit_3 12 rfl rfl)
theorem dJ5_nextSetBit_87 : decode cJ5_nextSetBit 87 = .ok (.if_icmp .ne 5, 3) := dk_160 0 5 (dk_at dksJ5_nextSetBit_3 15 rfl rfl)
theorem dJ5_nextSetBit_90 : decode cJ5_nextSetBit 90 = .ok (.iconst (-1), 1) := dk_2 (dk_at dksJ5_nextSetBit_3 18 rfl rfl)
theorem dJ5_nextSetBit_91 : decode cJ5_nextSetBit 91 = .ok (.ireturn, 1) := dk_172 (dk_at dksJ5_nextSetBit_3 19 rfl rfl)
theorem dJ5_nextSetBit_92 : decode cJ5_nextSetBit 92 = .ok (.aload_n 0, 1) := dk_42 (dk_at dksJ5_nextSetBit_3 20 rfl rfl)
theorem dJ5_nextSetBit_93 : decode cJ5_nextSetBit 93 = .ok (.getfield 11, 3) := dk_180 0 11 (dk_at dksJ5_nextSetBit_3 21 rfl rfl)
theorem dJ5_nextSetBit_96 : decode cJ5_nextSetBit 96 = .ok (.iload_n 2, 1) := dk_28 (dk_at dksJ5_nextSetBit_4 0 rfl rfl)
theorem dJ5_nextSetBit_97 : decode cJ5_nextSetBit 97 = .ok (.laload, 1) := dk_47 (dk_at dksJ5_nextSetBit_4 1 rfl rfl)
theorem dJ5_nextSetBit_98 : decode cJ5_nextSetBit 98 = .ok (.lstore_n 3, 1) := dk_66 (dk_at dksJ5_nextSetBit_4 2 rfl rfl)
theorem dJ5_nextSetBit_99 : decode cJ5_nextSetBit 99 = .ok (.goto (-36), 3) := dk_167 255 220 (dk_at dksJ5_nextSetBit_4 3 rfl rfl)
abbrev cJ5_get : ByteArray := prog_45_method_26_code
def yJ5_get : MethodName := ⟨RJ5, "get", "(I)Z"⟩
def dkwJ5_get_2 : List UInt8 := [42, 180, 0, 11, 28, 47, 10, 27, 121, 127, 9, 148, 153, 0, 7, 4, 167, 0, 4, 3, 172]
abbrev dktJ5_get_2 : List UInt8 := dkwJ5_get_2 ++ []
def dkwJ5_get_1 : List UInt8 := [182, 0, 45, 183, 0, 146, 191, 42, 182, 0, 56, 27, 184, 0, 52, 61, 28, 42, 180, 0, 7, 162, 0, 22]
abbrev dktJ5_get_1 : List UInt8 := dkwJ5_get_1 ++ dktJ5_get_2
def dkwJ5_get_0 : List UInt8 := [27, 156, 0, 30, 187, 0, 142, 89, 187, 0, 33, 89, 183, 0, 35, 18, 153, 182, 0, 38, 27, 182, 0, 42]
abbrev dktJ5_get_0 : List UInt8 := dkwJ5_get_0 ++ dktJ5_get_1
theorem dksJ5_get_0 : cJ5_get.data.toList.drop 0 = dktJ5_get_0 := by decide +kernel
theorem dksJ5_get_1 : cJ5_get.data.toList.drop 24 = dktJ5_get_1 := dk_seg dksJ5_get_0 24 rfl rfl
theorem dksJ5_get_2 : cJ5_get.data.toList.drop 48 = dktJ5_get_2 := dk_seg dksJ5_get_1 24 rfl rfl
theorem dJ5_get_0 : decode cJ5_get 0 = .ok (.iload_n 1, 1) := dk_27 (dk_at dksJ5_get_0 0 rfl rfl)
theorem dJ5_get_1 : decode cJ5_get 1 = .ok (.ifCond .ge 30, 3) := dk_156 0 30 (dk_at dksJ5_get_0 1 rfl rfl)
theorem dJ5_get_4 : decode cJ5_get 4 = .ok (.new 142, 3) := dk_187 0 142 (dk_at dksJ5_get_0 4 rfl rfl)
theorem dJ5_get_7 : decode cJ5_get 7 = .ok (.dup, 1) := dk_89 (dk_at dksJ5_get_0 7 rfl rfl)
theorem dJ5_get_8 : decode cJ5_get 8 = .ok (.new 33, 3) := dk_187 0 33 (dk_at dksJ5_get_0 8 rfl rfl)
theorem dJ5_get_11 : decode cJ5_get 11 = .ok (.dup, 1) := dk_89 (dk_at dksJ5_get_0 11 rfl rfl)
theorem dJ5_get_12 : decode cJ5_get 12 = .ok (.invokespecial 35, 3) := dk_183 0 35 (dk_at dksJ5_get_0 12 rfl rfl)
theorem dJ5_get_15 : decode cJ5_get 15 = .ok (.ldc 153, 2) := dk_18 153 (dk_at dksJ5_get_0 15 rfl rfl)
theorem dJ5_get_17 : decode cJ5_get 17 = .ok (.invokevirtual 38, 3) := dk_182 0 38 (dk_at dksJ5_get_0 17 rfl rfl)
theorem dJ5_get_20 : decode cJ5_get 20 = .ok (.iload_n 1, 1) := dk_27 (dk_at dksJ5_get_0 20 rfl rfl)
theorem dJ5_get_21 : decode cJ5_get 21 = .ok (.invokevirtual 42, 3) := dk_182 0 42 (dk_at dksJ5_get_0 21 rfl rfl)
theorem dJ5_get_24 : decode cJ5_get 24 = .ok (.invokevirtual 45, 3) := dk_182 0 45 (dk_at dksJ5_get_1 0 rfl rfl)
theorem dJ5_get_27 : decode cJ5_get 27 = .ok (.invokespecial 146, 3) := dk_183 0 146 (dk_at dksJ5_get_1 3 rfl rfl)
theorem dJ5_get_30 : decode cJ5_get 30 = .ok (.athrow, 1) := dk_191 (dk_at dksJ5_get_1 6 rfl rfl)
theorem dJ5_get_31 : decode cJ5_get 31 = .ok (.aload_n 0, 1) := dk_42 (dk_at dksJ5_get_1 7 rfl rfl)
theorem dJ5_get_32 : decode cJ5_get 32 = .ok (.invokevirtual 56, 3) := dk_182 0 56 (dk_at dksJ5_get_1 8 rfl rfl)
theorem dJ5_get_35 : decode cJ5_get 35 = .ok (.iload_n 1, 1) := dk_27 (dk_at dksJ5_get_1 11 rfl rfl)
theorem dJ5_get_36 : decode cJ5_get 36 = .ok (.invokestatic 52, 3) := dk_184 0 52 (dk_at dksJ5_get_1 12 rfl rfl)
theorem dJ5_get_39 : decode cJ5_get 39 = .ok (.istore_n 2, 1) := dk_61 (dk_at dksJ5_get_1 15 rfl rfl)
theorem dJ5_get_40 : decode cJ5_get 40 = .ok (.iload_n 2, 1) := dk_28 (dk_at dksJ5_get_1 16 rfl rfl)
theorem dJ5_get_41 : decode cJ5_get 41 = .ok (.aload_n 0, 1) := dk_42 (dk_at dksJ5_get_1 17 rfl rfl)
theorem dJ5_get_42 : decode cJ5_get 42 = .ok (.getfield 7, 3) := dk_180 0 7 (dk_at dksJ5_get_1 18 rfl rfl)
theorem dJ5_get_45 : decode cJ5_get 45 = .ok (.if_icmp .ge 22, 3) := dk_162 0 22 (dk_at dksJ5_get_1 21 rfl rfl)
theorem dJ5_get_48 : decode cJ5_get 48 = .ok (.aload_n 0, 1) := dk_42 (dk_at dksJ5_get_2 0 rfl rfl)
theorem dJ5_get_49 : decode cJ5_get 49 = .ok (.getfield 11, 3) := dk_180 0 11 (dk_at dksJ5_get_2 1 rfl rfl)
theorem dJ5_get_52 : decode cJ5_get 52 = .ok (.iload_n 2, 1) := dk_28 (dk_at dksJ5_get_2 4 rfl rfl)
theorem dJ5_get_53 : decode cJ5_get 53 = .ok (.laload, 1) := dk_47 (dk_at dksJ5_get_2 5 rfl rfl)
theorem dJ5_get_54 : decode cJ5_get 54 = .ok (.lconst 1, 1) := dk_10 (dk_at dksJ5_get_2 6 rfl rfl)
theorem dJ5_get_55 : decode cJ5_get 55 = .ok (.iload_n 1, 1) := dk_27 (dk_at dksJ5_get_2 7 rfl rfl)
theorem dJ5_get_56 : decode cJ5_get 56 = .ok (.lshl, 1) := dk_121 (dk_at dksJ5_get_2 8 rfl rfl)
theorem dJ5_get_57 : decode cJ5_get 57 = .ok (.land, 1) := dk_127 (dk_at dksJ5_get_2 9 rfl rfl)
theorem dJ5_get_58 : decode cJ5_get 58 = .ok (.lconst 0, 1) := dk_9 (dk_at dksJ5_get_2 10 rfl rfl)
theorem dJ5_get_59 : decode cJ5_get 59 = .ok (.lcmp, 1) := dk_148 (dk_at dksJ5_get_2 11 rfl rfl)
theorem dJ5_get_60 : decode cJ5_get 60 = .ok (.ifCond .eq 7, 3) := dk_153 0 7 (dk_at dksJ5_get_2 12 rfl rfl)
theorem dJ5_get_63 : decode cJ5_get 63 = .ok (.iconst 1, 1) := dk_4 (dk_at dksJ5_get_2 15 rfl rfl)
theorem dJ5_get_64 : decode cJ5_get 64 = .ok (.goto 4, 3) := dk_167 0 4 (dk_at dksJ5_get_2 16 rfl rfl)
theorem dJ5_get_67 : decode cJ5_get 67 = .ok (.iconst 0, 1) := dk_3 (dk_at dksJ5_get_2 19 rfl rfl)
theorem dJ5_get_68 : decode cJ5_get 68 = .ok (.ireturn, 1) := dk_172 (dk_at dksJ5_get_2 20 rfl rfl)
abbrev cJ5_set : ByteArray := prog_45_method_19_code
def yJ5_set : MethodName := ⟨RJ5, "set", "(I)V"⟩
def dkwJ5_set_2 : List UInt8 := [10, 27, 121, 129, 80, 42, 182, 0, 56, 177]
abbrev dktJ5_set_2 : List UInt8 := dkwJ5_set_2 ++ []
def dkwJ5_set_1 : List UInt8 := [182, 0, 45, 183, 0, 146, 191, 27, 184, 0, 52, 61, 42, 28, 182, 0, 155, 42, 180, 0, 11, 28, 92, 47]
abbrev dktJ5_set_1 : List UInt8 := dkwJ5_set_1 ++ dktJ5_set_2
def dkwJ5_set_0 : List UInt8 := [27, 156, 0, 30, 187, 0, 142, 89, 187, 0, 33, 89, 183, 0, 35, 18, 153, 182, 0, 38, 27, 182, 0, 42]
abbrev dktJ5_set_0 : List UInt8 := dkwJ5_set_0 ++ dktJ5_set_1
theorem dksJ5_set_0 : cJ5_set.data.toList.drop 0 = dktJ5_set_0 := by decide +kernel
theorem dksJ5_set_1 : cJ5_set.data.toList.drop 24 = dktJ5_set_1 := dk_seg dksJ5_set_0 24 rfl rfl
theorem dksJ5_set_2 : cJ5_set.data.toList.drop 48 = dktJ5_set_2 := dk_seg dksJ5_set_1 24 rfl rfl
theorem dJ5_set_0 : decode cJ5_set 0 = .ok (.iload_n 1, 1) := dk_27 (dk_at dksJ5_set_0 0 rfl rfl)
theorem dJ5_set_1 : decode cJ5_set 1 = .ok (.ifCond .ge 30, 3) := dk_156 0 30 (dk_at dksJ5_set_0 1 rfl rfl)
theorem dJ5_set_4 : decode cJ5_set 4 = .ok (.new 142, 3) := dk_187 0 142 (dk_at dksJ5_set_0 4 rfl rfl)
theorem dJ5_set_7 : decode cJ5_set 7 = .ok (.dup, 1) := dk_89 (dk_at dksJ5_set_0 7 rfl rfl)
theorem dJ5_set_8 : decode cJ5_set 8 = .ok (.new 33, 3) := dk_187 0 33 (dk_at dksJ5_set_0 8 rfl rfl)
theorem dJ5_set_11 : decode cJ5_set 11 = .ok (.dup, 1) := dk_89 (dk_at dksJ5_set_0 11 rfl rfl)
theorem dJ5_set_12 : decode cJ5_set 12 = .ok (.invokespecial 35, 3) := dk_183 0 35 (dk_at dksJ5_set_0 12 rfl rfl)
theorem dJ5_set_15 : decode cJ5_set 15 = .ok (.ldc 153, 2) := dk_18 153 (dk_at dksJ5_set_0 15 rfl rfl)
theorem dJ5_set_17 : decode cJ5_set 17 = .ok (.invokevirtual 38, 3) := dk_182 0 38 (dk_at dksJ5_set_0 17 rfl rfl)
theorem dJ5_set_20 : decode cJ5_set 20 = .ok (.iload_n 1, 1) := dk_27 (dk_at dksJ5_set_0 20 rfl rfl)
theorem dJ5_set_21 : decode cJ5_set 21 = .ok (.invokevirtual 42, 3) := dk_182 0 42 (dk_at dksJ5_set_0 21 rfl rfl)
theorem dJ5_set_24 : decode cJ5_set 24 = .ok (.invokevirtual 45, 3) := dk_182 0 45 (dk_at dksJ5_set_1 0 rfl rfl)
theorem dJ5_set_27 : decode cJ5_set 27 = .ok (.invokespecial 146, 3) := dk_183 0 146 (dk_at dksJ5_set_1 3 rfl rfl)
theorem dJ5_set_30 : decode cJ5_set 30 = .ok (.athrow, 1) := dk_191 (dk_at dksJ5_set_1 6 rfl rfl)
theorem dJ5_set_31 : decode cJ5_set 31 = .ok (.iload_n 1, 1) := dk_27 (dk_at dksJ5_set_1 7 rfl rfl)
theorem dJ5_set_32 : decode cJ5_set 32 = .ok (.invokestatic 52, 3) := dk_184 0 52 (dk_at dksJ5_set_1 8 rfl rfl)
theorem dJ5_set_35 : decode cJ5_set 35 = .ok (.istore_n 2, 1) := dk_61 (dk_at dksJ5_set_1 11 rfl rfl)
theorem dJ5_set_36 : decode cJ5_set 36 = .ok (.aload_n 0, 1) := dk_42 (dk_at dksJ5_set_1 12 rfl rfl)
theorem dJ5_set_37 : decode cJ5_set 37 = .ok (.iload_n 2, 1) := dk_28 (dk_at dksJ5_set_1 13 rfl rfl)
theorem dJ5_set_38 : decode cJ5_set 38 = .ok (.invokevirtual 155, 3) := dk_182 0 155 (dk_at dksJ5_set_1 14 rfl rfl)
theorem dJ5_set_41 : decode cJ5_set 41 = .ok (.aload_n 0, 1) := dk_42 (dk_at dksJ5_set_1 17 rfl rfl)
theorem dJ5_set_42 : decode cJ5_set 42 = .ok (.getfield 11, 3) := dk_180 0 11 (dk_at dksJ5_set_1 18 rfl rfl)
theorem dJ5_set_45 : decode cJ5_set 45 = .ok (.iload_n 2, 1) := dk_28 (dk_at dksJ5_set_1 21 rfl rfl)
theorem dJ5_set_46 : decode cJ5_set 46 = .ok (.dup2, 1) := dk_92 (dk_at dksJ5_set_1 22 rfl rfl)
theorem dJ5_set_47 : decode cJ5_set 47 = .ok (.laload, 1) := dk_47 (dk_at dksJ5_set_1 23 rfl rfl)
theorem dJ5_set_48 : decode cJ5_set 48 = .ok (.lconst 1, 1) := dk_10 (dk_at dksJ5_set_2 0 rfl rfl)
theorem dJ5_set_49 : decode cJ5_set 49 = .ok (.iload_n 1, 1) := dk_27 (dk_at dksJ5_set_2 1 rfl rfl)
theorem dJ5_set_50 : decode cJ5_set 50 = .ok (.lshl, 1) := dk_121 (dk_at dksJ5_set_2 2 rfl rfl)
theorem dJ5_set_51 : decode cJ5_set 51 = .ok (.lor, 1) := dk_129 (dk_at dksJ5_set_2 3 rfl rfl)
theorem dJ5_set_52 : decode cJ5_set 52 = .ok (.lastore, 1) := dk_80 (dk_at dksJ5_set_2 4 rfl rfl)
theorem dJ5_set_53 : decode cJ5_set 53 = .ok (.aload_n 0, 1) := dk_42 (dk_at dksJ5_set_2 5 rfl rfl)
theorem dJ5_set_54 : decode cJ5_set 54 = .ok (.invokevirtual 56, 3) := dk_182 0 56 (dk_at dksJ5_set_2 6 rfl rfl)
theorem dJ5_set_57 : decode cJ5_set 57 = .ok (.return_, 1) := dk_177 (dk_at dksJ5_set_2 9 rfl rfl)
abbrev cJ5_expandTo : ByteArray := prog_45_method_15_code
def yJ5_expandTo : MethodName := ⟨RJ5, "expandTo", "(I)V"⟩
def dkwJ5_expandTo_0 : List UInt8 := [27, 4, 96, 61, 42, 180, 0, 7, 28, 162, 0, 13, 42, 28, 182, 0, 139, 42, 28, 181, 0, 7, 177]
abbrev dktJ5_expandTo_0 : List UInt8 := dkwJ5_expandTo_0 ++ []
theorem dksJ5_expandTo_0 : cJ5_expandTo.data.toList.drop 0 = dktJ5_expandTo_0 := by decide +kernel
theorem dJ5_expandTo_0 : decode cJ5_expandTo 0 = .ok (.iload_n 1, 1) := dk_27 (dk_at dksJ5_expandTo_0 0 rfl rfl)
theorem dJ5_expandTo_1 : decode cJ5_expandTo 1 = .ok (.iconst 1, 1) := dk_4 (dk_at dksJ5_expandTo_0 1 rfl rfl)
theorem dJ5_expandTo_2 : decode cJ5_expandTo 2 = .ok (.iadd, 1) := dk_96 (dk_at dksJ5_expandTo_0 2 rfl rfl)
theorem dJ5_expandTo_3 : decode cJ5_expandTo 3 = .ok (.istore_n 2, 1) := dk_61 (dk_at dksJ5_expandTo_0 3 rfl rfl)
theorem dJ5_expandTo_4 : decode cJ5_expandTo 4 = .ok (.aload_n 0, 1) := dk_42 (dk_at dksJ5_expandTo_0 4 rfl rfl)
theorem dJ5_expandTo_5 : decode cJ5_expandTo 5 = .ok (.getfield 7, 3) := dk_180 0 7 (dk_at dksJ5_expandTo_0 5 rfl rfl)
theorem dJ5_expandTo_8 : decode cJ5_expandTo 8 = .ok (.iload_n 2, 1) := dk_28 (dk_at dksJ5_expandTo_0 8 rfl rfl)
theorem dJ5_expandTo_9 : decode cJ5_expandTo 9 = .ok (.if_icmp .ge 13, 3) := dk_162 0 13 (dk_at dksJ5_expandTo_0 9 rfl rfl)
theorem dJ5_expandTo_12 : decode cJ5_expandTo 12 = .ok (.aload_n 0, 1) := dk_42 (dk_at dksJ5_expandTo_0 12 rfl rfl)
theorem dJ5_expandTo_13 : decode cJ5_expandTo 13 = .ok (.iload_n 2, 1) := dk_28 (dk_at dksJ5_expandTo_0 13 rfl rfl)
theorem dJ5_expandTo_14 : decode cJ5_expandTo 14 = .ok (.invokevirtual 139, 3) := dk_182 0 139 (dk_at dksJ5_expandTo_0 14 rfl rfl)
theorem dJ5_expandTo_17 : decode cJ5_expandTo 17 = .ok (.aload_n 0, 1) := dk_42 (dk_at dksJ5_expandTo_0 17 rfl rfl)
theorem dJ5_expandTo_18 : decode cJ5_expandTo 18 = .ok (.iload_n 2, 1) := dk_28 (dk_at dksJ5_expandTo_0 18 rfl rfl)
theorem dJ5_expandTo_19 : decode cJ5_expandTo 19 = .ok (.putfield 7, 3) := dk_181 0 7 (dk_at dksJ5_expandTo_0 19 rfl rfl)
theorem dJ5_expandTo_22 : decode cJ5_expandTo 22 = .ok (.return_, 1) := dk_177 (dk_at dksJ5_expandTo_0 22 rfl rfl)
theorem q72 : (Jvm.Cond.initialized "java/util/BitSet") ∈ lw_all := lw_g (lw_at lw_m1 9 rfl) rfl
theorem q183 : (Jvm.Cond.instantiable "java/util/BitSet" (3 : Nat)) ∈ lw_all := lw_g (lw_at lw_m1 120 rfl) rfl
theorem q185 : (Jvm.Cond.instanceMethod ({ cls := "java/util/BitSet", name := "<init>", desc := "(I)V" } : Jvm.MethodName)) ∈ lw_all := lw_g (lw_at lw_m1 122 rfl) rfl
theorem q186 : (Jvm.Cond.code ({ cls := "java/util/BitSet", name := "<init>", desc := "(I)V" } : Jvm.MethodName) prog_45_method_5_code (2 : Nat) (Option.none : Option Jvm.ClassFile.FieldType)) ∈ lw_all := lw_g (lw_at lw_m1 123 rfl) rfl
theorem q187 : (Jvm.Cond.methodLink "java/util/BitSet" (21 : Nat) ({ cls := "java/lang/Object", name := "<init>", desc := "()V" } : Jvm.MethodName)) ∈ lw_all := lw_g (lw_at lw_m1 124 rfl) rfl
theorem q188 : (Jvm.Cond.methodLink "java/util/BitSet" (27 : Nat) ({ cls := "java/util/BitSet", name := "initWords", desc := "(I)V" } : Jvm.MethodName)) ∈ lw_all := lw_g (lw_at lw_m1 125 rfl) rfl
theorem q189 : (Jvm.Cond.privateMethod ({ cls := "java/util/BitSet", name := "initWords", desc := "(I)V" } : Jvm.MethodName)) ∈ lw_tbl := lw_at lw_m1 126 rfl
theorem q190 : (Jvm.Cond.instanceMethod ({ cls := "java/util/BitSet", name := "initWords", desc := "(I)V" } : Jvm.MethodName)) ∈ lw_all := lw_g (lw_at lw_m1 127 rfl) rfl
theorem q191 : (Jvm.Cond.code ({ cls := "java/util/BitSet", name := "initWords", desc := "(I)V" } : Jvm.MethodName) prog_45_method_6_code (2 : Nat) (Option.none : Option Jvm.ClassFile.FieldType)) ∈ lw_all := lw_g (lw_at lw_m1 128 rfl) rfl
theorem q192 : (Jvm.Cond.methodLink "java/util/BitSet" (52 : Nat) ({ cls := "java/util/BitSet", name := "wordIndex", desc := "(I)I" } : Jvm.MethodName)) ∈ lw_all := lw_g (lw_at lw_m1 129 rfl) rfl
theorem q193 : (Jvm.Cond.static ({ cls := "java/util/BitSet", name := "wordIndex", desc := "(I)I" } : Jvm.MethodName)) ∈ lw_all := lw_g (lw_at lw_m1 130 rfl) rfl
theorem q194 : (Jvm.Cond.code ({ cls := "java/util/BitSet", name := "wordIndex", desc := "(I)I" } : Jvm.MethodName) prog_45_method_1_code (1 : Nat) (Option.some Jvm.ClassFile.FieldType.int)) ∈ lw_all := lw_g (lw_at lw_m1 131 rfl) rfl
theorem q195 : (Jvm.Cond.fieldLink "java/util/BitSet" (11 : Nat) "java/util/BitSet" "words" "[J") ∈ lw_all := lw_g (lw_at lw_m1 132 rfl) rfl
theorem q196 : (Jvm.Cond.fieldLink "java/util/BitSet" (7 : Nat) "java/util/BitSet" "wordsInUse" "I") ∈ lw_all := lw_g (lw_at lw_m1 133 rfl) rfl
theorem q197 : (Jvm.Cond.fieldLink "java/util/BitSet" (24 : Nat) "java/util/BitSet" "sizeIsSticky" "Z") ∈ lw_all := lw_g (lw_at lw_m1 134 rfl) rfl
theorem q198 : (Jvm.Cond.lays "java/util/BitSet" "java/util/BitSet" "words" "[J") ∈ lw_all := lw_g (lw_at lw_m1 135 rfl) rfl
theorem q199 : (Jvm.Cond.soleField "java/util/BitSet" "words") ∈ lw_all := lw_g (lw_at lw_m1 136 rfl) rfl
theorem q200 : (Jvm.Cond.lays "java/util/BitSet" "java/util/BitSet" "wordsInUse" "I") ∈ lw_all := lw_g (lw_at lw_m1 137 rfl) rfl
theorem q201 : (Jvm.Cond.soleField "java/util/BitSet" "wordsInUse") ∈ lw_all := lw_g (lw_at lw_m1 138 rfl) rfl
theorem q202 : (Jvm.Cond.lays "java/util/BitSet" "java/util/BitSet" "sizeIsSticky" "Z") ∈ lw_all := lw_g (lw_at lw_m1 139 rfl) rfl
theorem q203 : (Jvm.Cond.soleField "java/util/BitSet" "sizeIsSticky") ∈ lw_all := lw_g (lw_at lw_m1 140 rfl) rfl
theorem q204 : (Jvm.Cond.superclass "java/util/BitSet" "java/lang/Object") ∈ lw_all := lw_g (lw_at lw_m1 141 rfl) rfl
theorem q278 : (Jvm.Cond.selects "java/util/BitSet" ({ cls := "java/lang/Object", name := "getClass", desc := "()Ljava/lang/Class;" } : Jvm.MethodName) ({ cls := "java/lang/Object", name := "getClass", desc := "()Ljava/lang/Class;" } : Jvm.MethodName)) ∈ lw_all := lw_g (lw_at lw_m1 215 rfl) rfl
theorem q461 : (Jvm.Cond.instanceMethod ({ cls := "java/util/BitSet", name := "or", desc := "(Ljava/util/BitSet;)V" } : Jvm.MethodName)) ∈ lw_all := lw_g (lw_at lw_m2 158 rfl) rfl
theorem q462 : (Jvm.Cond.selects "java/util/BitSet" ({ cls := "java/util/BitSet", name := "or", desc := "(Ljava/util/BitSet;)V" } : Jvm.MethodName) ({ cls := "java/util/BitSet", name := "or", desc := "(Ljava/util/BitSet;)V" } : Jvm.MethodName)) ∈ lw_all := lw_g (lw_at lw_m2 159 rfl) rfl
theorem q463 : (Jvm.Cond.code ({ cls := "java/util/BitSet", name := "or", desc := "(Ljava/util/BitSet;)V" } : Jvm.MethodName) prog_45_method_37_code (4 : Nat) (Option.none : Option Jvm.ClassFile.FieldType)) ∈ lw_all := lw_g (lw_at lw_m2 160 rfl) rfl
theorem q464 : (Jvm.Cond.methodLink "java/util/BitSet" (193 : Nat) ({ cls := "java/lang/Math", name := "min", desc := "(II)I" } : Jvm.MethodName)) ∈ lw_all := lw_g (lw_at lw_m2 161 rfl) rfl
theorem q465 : (Jvm.Cond.methodLink "java/util/BitSet" (139 : Nat) ({ cls := "java/util/BitSet", name := "ensureCapacity", desc := "(I)V" } : Jvm.MethodName)) ∈ lw_all := lw_g (lw_at lw_m2 162 rfl) rfl
theorem q466 : (Jvm.Cond.privateMethod ({ cls := "java/util/BitSet", name := "ensureCapacity", desc := "(I)V" } : Jvm.MethodName)) ∈ lw_tbl := lw_at lw_m2 163 rfl
theorem q467 : (Jvm.Cond.instanceMethod ({ cls := "java/util/BitSet", name := "ensureCapacity", desc := "(I)V" } : Jvm.MethodName)) ∈ lw_all := lw_g (lw_at lw_m2 164 rfl) rfl
theorem q468 : (Jvm.Cond.code ({ cls := "java/util/BitSet", name := "ensureCapacity", desc := "(I)V" } : Jvm.MethodName) prog_45_method_14_code (3 : Nat) (Option.none : Option Jvm.ClassFile.FieldType)) ∈ lw_all := lw_g (lw_at lw_m2 165 rfl) rfl
theorem q469 : (Jvm.Cond.methodLink "java/util/BitSet" (133 : Nat) ({ cls := "java/lang/Math", name := "max", desc := "(II)I" } : Jvm.MethodName)) ∈ lw_all := lw_g (lw_at lw_m2 166 rfl) rfl
theorem q470 : (Jvm.Cond.methodLink "java/util/BitSet" (59 : Nat) ({ cls := "java/util/Arrays", name := "copyOf", desc := "([JI)[J" } : Jvm.MethodName)) ∈ lw_all := lw_g (lw_at lw_m2 167 rfl) rfl
theorem q480 : (Jvm.Cond.methodLink "java/util/BitSet" (199 : Nat) ({ cls := "java/lang/System", name := "arraycopy", desc := "(Ljava/lang/Object;ILjava/lang/Object;II)V" } : Jvm.MethodName)) ∈ lw_all := lw_g (lw_at lw_m2 177 rfl) rfl
theorem q481 : (Jvm.Cond.methodLink "java/util/BitSet" (56 : Nat) ({ cls := "java/util/BitSet", name := "checkInvariants", desc := "()V" } : Jvm.MethodName)) ∈ lw_all := lw_g (lw_at lw_m2 178 rfl) rfl
theorem q482 : (Jvm.Cond.privateMethod ({ cls := "java/util/BitSet", name := "checkInvariants", desc := "()V" } : Jvm.MethodName)) ∈ lw_tbl := lw_at lw_m2 179 rfl
theorem q483 : (Jvm.Cond.instanceMethod ({ cls := "java/util/BitSet", name := "checkInvariants", desc := "()V" } : Jvm.MethodName)) ∈ lw_all := lw_g (lw_at lw_m2 180 rfl) rfl
theorem q484 : (Jvm.Cond.code ({ cls := "java/util/BitSet", name := "checkInvariants", desc := "()V" } : Jvm.MethodName) prog_45_method_2_code (1 : Nat) (Option.none : Option Jvm.ClassFile.FieldType)) ∈ lw_all := lw_g (lw_at lw_m2 181 rfl) rfl
theorem q485 : (Jvm.Cond.fieldLink "java/util/BitSet" (3 : Nat) "java/util/BitSet" "$assertionsDisabled" "Z") ∈ lw_all := lw_g (lw_at lw_m2 182 rfl) rfl
theorem q486 : (Jvm.Cond.laysStatic "java/util/BitSet" "$assertionsDisabled" "Z") ∈ lw_tbl := lw_at lw_m2 183 rfl
theorem q1235 : (Jvm.Cond.instanceMethod ({ cls := "java/util/BitSet", name := "nextSetBit", desc := "(I)I" } : Jvm.MethodName)) ∈ lw_all := lw_g (lw_at lw_m5 212 rfl) rfl
theorem q1236 : (Jvm.Cond.selects "java/util/BitSet" ({ cls := "java/util/BitSet", name := "nextSetBit", desc := "(I)I" } : Jvm.MethodName) ({ cls := "java/util/BitSet", name := "nextSetBit", desc := "(I)I" } : Jvm.MethodName)) ∈ lw_all := lw_g (lw_at lw_m5 213 rfl) rfl
theorem q1237 : (Jvm.Cond.code ({ cls := "java/util/BitSet", name := "nextSetBit", desc := "(I)I" } : Jvm.MethodName) prog_45_method_28_code (5 : Nat) (Option.some Jvm.ClassFile.FieldType.int)) ∈ lw_all := lw_g (lw_at lw_m5 214 rfl) rfl
theorem q1238 : (Jvm.Cond.constantLong "java/util/BitSet" (165 : Nat) (-1 : Int64)) ∈ lw_all := lw_g (lw_at lw_m5 215 rfl) rfl
theorem q1239 : (Jvm.Cond.methodLink "java/util/BitSet" (182 : Nat) ({ cls := "java/lang/Long", name := "numberOfTrailingZeros", desc := "(J)I" } : Jvm.MethodName)) ∈ lw_all := lw_g (lw_at lw_m5 216 rfl) rfl
theorem q1340 : (Jvm.Cond.instanceMethod ({ cls := "java/util/BitSet", name := "get", desc := "(I)Z" } : Jvm.MethodName)) ∈ lw_all := lw_g (lw_at lw_m6 77 rfl) rfl
theorem q1341 : (Jvm.Cond.selects "java/util/BitSet" ({ cls := "java/util/BitSet", name := "get", desc := "(I)Z" } : Jvm.MethodName) ({ cls := "java/util/BitSet", name := "get", desc := "(I)Z" } : Jvm.MethodName)) ∈ lw_all := lw_g (lw_at lw_m6 78 rfl) rfl
theorem q1342 : (Jvm.Cond.code ({ cls := "java/util/BitSet", name := "get", desc := "(I)Z" } : Jvm.MethodName) prog_45_method_26_code (3 : Nat) (Option.some Jvm.ClassFile.FieldType.boolean)) ∈ lw_all := lw_g (lw_at lw_m6 79 rfl) rfl
theorem q1373 : (Jvm.Cond.instanceMethod ({ cls := "java/util/BitSet", name := "set", desc := "(I)V" } : Jvm.MethodName)) ∈ lw_all := lw_g (lw_at lw_m6 110 rfl) rfl
theorem q1374 : (Jvm.Cond.selects "java/util/BitSet" ({ cls := "java/util/BitSet", name := "set", desc := "(I)V" } : Jvm.MethodName) ({ cls := "java/util/BitSet", name := "set", desc := "(I)V" } : Jvm.MethodName)) ∈ lw_all := lw_g (lw_at lw_m6 111 rfl) rfl
theorem q1375 : (Jvm.Cond.code ({ cls := "java/util/BitSet", name := "set", desc := "(I)V" } : Jvm.MethodName) prog_45_method_19_code (3 : Nat) (Option.none : Option Jvm.ClassFile.FieldType)) ∈ lw_all := lw_g (lw_at lw_m6 112 rfl) rfl
theorem q1376 : (Jvm.Cond.methodLink "java/util/BitSet" (155 : Nat) ({ cls := "java/util/BitSet", name := "expandTo", desc := "(I)V" } : Jvm.MethodName)) ∈ lw_all := lw_g (lw_at lw_m6 113 rfl) rfl
theorem q1377 : (Jvm.Cond.privateMethod ({ cls := "java/util/BitSet", name := "expandTo", desc := "(I)V" } : Jvm.MethodName)) ∈ lw_tbl := lw_at lw_m6 114 rfl
theorem q1378 : (Jvm.Cond.instanceMethod ({ cls := "java/util/BitSet", name := "expandTo", desc := "(I)V" } : Jvm.MethodName)) ∈ lw_all := lw_g (lw_at lw_m6 115 rfl) rfl
theorem q1379 : (Jvm.Cond.code ({ cls := "java/util/BitSet", name := "expandTo", desc := "(I)V" } : Jvm.MethodName) prog_45_method_15_code (3 : Nat) (Option.none : Option Jvm.ClassFile.FieldType)) ∈ lw_all := lw_g (lw_at lw_m6 116 rfl) rfl
theorem q2258 : (Jvm.Cond.castable "java/util/BitSet" "java/lang/Object") ∈ lw_tbl := lw_at lw_m10 35 rfl
theorem in_J5 : ∀ w ∈ wsJ50, w ∈ lw_all := lw_in wsJ50 [198, 200, 202] (by decide +kernel) (by decide +kernel)

/-! jdk/internal/util/ArraysSupport -/
set_option maxRecDepth 100000
def RJ6 : String := "jdk/internal/util/ArraysSupport"
abbrev cJ6_newLength : ByteArray := prog_60_method_27_code
def yJ6_newLength : MethodName := ⟨RJ6, "newLength", "(III)I"⟩
def dkwJ6_newLength_1 : List UInt8 := [184, 0, 201, 172]
abbrev dktJ6_newLength_1 : List UInt8 := dkwJ6_newLength_1 ++ []
def dkwJ6_newLength_0 : List UInt8 := [26, 27, 28, 184, 0, 194, 96, 62, 3, 29, 162, 0, 11, 29, 18, 200, 163, 0, 5, 29, 172, 26, 27]
abbrev dktJ6_newLength_0 : List UInt8 := dkwJ6_newLength_0 ++ dktJ6_newLength_1
theorem dksJ6_newLength_0 : cJ6_newLength.data.toList.drop 0 = dktJ6_newLength_0 := by decide +kernel
theorem dksJ6_newLength_1 : cJ6_newLength.data.toList.drop 23 = dktJ6_newLength_1 := dk_seg dksJ6_newLength_0 23 rfl rfl
theorem dJ6_newLength_0 : decode cJ6_newLength 0 = .ok (.iload_n 0, 1) := dk_26 (dk_at dksJ6_newLength_0 0 rfl rfl)
theorem dJ6_newLength_1 : decode cJ6_newLength 1 = .ok (.iload_n 1, 1) := dk_27 (dk_at dksJ6_newLength_0 1 rfl rfl)
theorem dJ6_newLength_2 : decode cJ6_newLength 2 = .ok (.iload_n 2, 1) := dk_28 (dk_at dksJ6_newLength_0 2 rfl rfl)
theorem dJ6_newLength_3 : decode cJ6_newLength 3 = .ok (.invokestatic 194, 3) := dk_184 0 194 (dk_at dksJ6_newLength_0 3 rfl rfl)
theorem dJ6_newLength_6 : decode cJ6_newLength 6 = .ok (.iadd, 1) := dk_96 (dk_at dksJ6_newLength_0 6 rfl rfl)
theorem dJ6_newLength_7 : decode cJ6_newLength 7 = .ok (.istore_n 3, 1) := dk_62 (dk_at dksJ6_newLength_0 7 rfl rfl)
theorem dJ6_newLength_8 : decode cJ6_newLength 8 = .ok (.iconst 0, 1) := dk_3 (dk_at dksJ6_newLength_0 8 rfl rfl)
theorem dJ6_newLength_9 : decode cJ6_newLength 9 = .ok (.iload_n 3, 1) := dk_29 (dk_at dksJ6_newLength_0 9 rfl rfl)
theorem dJ6_newLength_10 : decode cJ6_newLength 10 = .ok (.if_icmp .ge 11, 3) := dk_162 0 11 (dk_at dksJ6_newLength_0 10 rfl rfl)
theorem dJ6_newLength_13 : decode cJ6_newLength 13 = .ok (.iload_n 3, 1) := dk_29 (dk_at dksJ6_newLength_0 13 rfl rfl)
theorem dJ6_newLength_14 : decode cJ6_newLength 14 = .ok (.ldc 200, 2) := dk_18 200 (dk_at dksJ6_newLength_0 14 rfl rfl)
theorem dJ6_newLength_16 : decode cJ6_newLength 16 = .ok (.if_icmp .gt 5, 3) := dk_163 0 5 (dk_at dksJ6_newLength_0 16 rfl rfl)
theorem dJ6_newLength_19 : decode cJ6_newLength 19 = .ok (.iload_n 3, 1) := dk_29 (dk_at dksJ6_newLength_0 19 rfl rfl)
theorem dJ6_newLength_20 : decode cJ6_newLength 20 = .ok (.ireturn, 1) := dk_172 (dk_at dksJ6_newLength_0 20 rfl rfl)
theorem dJ6_newLength_21 : decode cJ6_newLength 21 = .ok (.iload_n 0, 1) := dk_26 (dk_at dksJ6_newLength_0 21 rfl rfl)
theorem dJ6_newLength_22 : decode cJ6_newLength 22 = .ok (.iload_n 1, 1) := dk_27 (dk_at dksJ6_newLength_0 22 rfl rfl)
theorem dJ6_newLength_23 : decode cJ6_newLength 23 = .ok (.invokestatic 201, 3) := dk_184 0 201 (dk_at dksJ6_newLength_1 0 rfl rfl)
theorem dJ6_newLength_26 : decode cJ6_newLength 26 = .ok (.ireturn, 1) := dk_172 (dk_at dksJ6_newLength_1 3 rfl rfl)
abbrev cJ6_hugeLength : ByteArray := prog_60_method_28_code
def yJ6_hugeLength : MethodName := ⟨RJ6, "hugeLength", "(II)I"⟩
def dkwJ6_hugeLength_2 : List UInt8 := [191, 28, 18, 200, 163, 0, 6, 18, 200, 172, 28, 172]
abbrev dktJ6_hugeLength_2 : List UInt8 := dkwJ6_hugeLength_2 ++ []
def dkwJ6_hugeLength_1 : List UInt8 := [26, 182, 0, 98, 18, 208, 182, 0, 94, 27, 182, 0, 98, 18, 210, 182, 0, 94, 182, 0, 101, 183, 0, 212]
abbrev dktJ6_hugeLength_1 : List UInt8 := dkwJ6_hugeLength_1 ++ dktJ6_hugeLength_2
def dkwJ6_hugeLength_0 : List UInt8 := [26, 27, 96, 61, 28, 156, 0, 44, 187, 0, 204, 89, 187, 0, 89, 89, 183, 0, 91, 18, 206, 182, 0, 94]
abbrev dktJ6_hugeLength_0 : List UInt8 := dkwJ6_hugeLength_0 ++ dktJ6_hugeLength_1
theorem dksJ6_hugeLength_0 : cJ6_hugeLength.data.toList.drop 0 = dktJ6_hugeLength_0 := by decide +kernel
theorem dksJ6_hugeLength_1 : cJ6_hugeLength.data.toList.drop 24 = dktJ6_hugeLength_1 := dk_seg dksJ6_hugeLength_0 24 rfl rfl
theorem dksJ6_hugeLength_2 : cJ6_hugeLength.data.toList.drop 48 = dktJ6_hugeLength_2 := dk_seg dksJ6_hugeLength_1 24 rfl rfl
theorem dJ6_hugeLength_0 : decode cJ6_hugeLength 0 = .ok (.iload_n 0, 1) := dk_26 (dk_at dksJ6_hugeLength_0 0 rfl rfl)
theorem dJ6_hugeLength_1 : decode cJ6_hugeLength 1 = .ok (.iload_n 1, 1) := dk_27 (dk_at dksJ6_hugeLength_0 1 rfl rfl)
theorem dJ6_hugeLength_2 : decode cJ6_hugeLength 2 = .ok (.iadd, 1) := dk_96 (dk_at dksJ6_hugeLength_0 2 rfl rfl)
theorem dJ6_hugeLength_3 : decode cJ6_hugeLength 3 = .ok (.istore_n 2, 1) := dk_61 (dk_at dksJ6_hugeLength_0 3 rfl rfl)
theorem dJ6_hugeLength_4 : decode cJ6_hugeLength 4 = .ok (.iload_n 2, 1) := dk_28 (dk_at dksJ6_hugeLength_0 4 rfl rfl)
theorem dJ6_hugeLength_5 : decode cJ6_hugeLength 5 = .ok (.ifCond .ge 44, 3) := dk_156 0 44 (dk_at dksJ6_hugeLength_0 5 rfl rfl)
theorem dJ6_hugeLength_8 : decode cJ6_hugeLength 8 = .ok (.new 204, 3) := dk_187 0 204 (dk_at dksJ6_hugeLength_0 8 rfl rfl)
theorem dJ6_hugeLength_11 : decode cJ6_hugeLength 11 = .ok (.dup, 1) := dk_89 (dk_at dksJ6_hugeLength_0 11 rfl rfl)
theorem dJ6_hugeLength_12 : decode cJ6_hugeLength 12 = .ok (.new 89, 3) := dk_187 0 89 (dk_at dksJ6_hugeLength_0 12 rfl rfl)
theorem dJ6_hugeLength_15 : decode cJ6_hugeLength 15 = .ok (.dup, 1) := dk_89 (dk_at dksJ6_hugeLength_0 15 rfl rfl)
theorem dJ6_hugeLength_16 : decode cJ6_hugeLength 16 = .ok (.invokespecial 91, 3) := dk_183 0 91 (dk_at dksJ6_hugeLength_0 16 rfl rfl)
theorem dJ6_hugeLength_19 : decode cJ6_hugeLength 19 = .ok (.ldc 206, 2) := dk_18 206 (dk_at dksJ6_hugeLength_0 19 rfl rfl)
theorem dJ6_hugeLength_21 : decode cJ6_hugeLength 21 = .ok (.invokevirtual 94, 3) := dk_182 0 94 (dk_at dksJ6_hugeLength_0 21 rfl rfl)
theorem dJ6_hugeLength_24 : decode cJ6_hugeLength 24 = .ok (.iload_n 0, 1) := dk_26 (dk_at dksJ6_hugeLength_1 0 rfl rfl)
theorem dJ6_hugeLength_25 : decode cJ6_hugeLength 25 = .ok (.invokevirtual 98, 3) := dk_182 0 98 (dk_at dksJ6_hugeLength_1 1 rfl rfl)
theorem dJ6_hugeLength_28 : decode cJ6_hugeLength 28 = .ok (.ldc 208, 2) := dk_18 208 (dk_at dksJ6_hugeLength_1 4 rfl rfl)
theorem dJ6_hugeLength_30 : decode cJ6_hugeLength 30 = .ok (.invokevirtual 94, 3) := dk_182 0 94 (dk_at dksJ6_hugeLength_1 6 rfl rfl)
theorem dJ6_hugeLength_33 : decode cJ6_hugeLength 33 = .ok (.iload_n 1, 1) := dk_27 (dk_at dksJ6_hugeLength_1 9 rfl rfl)
theorem dJ6_hugeLength_34 : decode cJ6_hugeLength 34 = .ok (.invokevirtual 98, 3) := dk_182 0 98 (dk_at dksJ6_hugeLength_1 10 rfl rfl)
theorem dJ6_hugeLength_37 : decode cJ6_hugeLength 37 = .ok (.ldc 210, 2) := dk_18 210 (dk_at dksJ6_hugeLength_1 13 rfl rfl)
theorem dJ6_hugeLength_39 : decode cJ6_hugeLength 39 = .ok (.invokevirtual 94, 3) := dk_182 0 94 (dk_at dksJ6_hugeLength_1 15 rfl rfl)
theorem dJ6_hugeLength_42 : decode cJ6_hugeLength 42 = .ok (.invokevirtual 101, 3) := dk_182 0 101 (dk_at dksJ6_hugeLength_1 18 rfl rfl)
theorem dJ6_hugeLength_45 : decode cJ6_hugeLength 45 = .ok (.invokespecial 212, 3) := dk_183 0 212 (dk_at dksJ6_hugeLength_1 21 rfl rfl)
theorem dJ6_hugeLength_48 : decode cJ6_hugeLength 48 = .ok (.athrow, 1) := dk_191 (dk_at dksJ6_hugeLength_2 0 rfl rfl)
theorem dJ6_hugeLength_49 : decode cJ6_hugeLength 49 = .ok (.iload_n 2, 1) := dk_28 (dk_at dksJ6_hugeLength_2 1 rfl rfl)
theorem dJ6_hugeLength_50 : decode cJ6_hugeLength 50 = .ok (.ldc 200, 2) := dk_18 200 (dk_at dksJ6_hugeLength_2 2 rfl rfl)
theorem dJ6_hugeLength_52 : decode cJ6_hugeLength 52 = .ok (.if_icmp .gt 6, 3) := dk_163 0 6 (dk_at dksJ6_hugeLength_2 4 rfl rfl)
theorem dJ6_hugeLength_55 : decode cJ6_hugeLength 55 = .ok (.ldc 200, 2) := dk_18 200 (dk_at dksJ6_hugeLength_2 7 rfl rfl)
theorem dJ6_hugeLength_57 : decode cJ6_hugeLength 57 = .ok (.ireturn, 1) := dk_172 (dk_at dksJ6_hugeLength_2 9 rfl rfl)
theorem dJ6_hugeLength_58 : decode cJ6_hugeLength 58 = .ok (.iload_n 2, 1) := dk_28 (dk_at dksJ6_hugeLength_2 10 rfl rfl)
theorem dJ6_hugeLength_59 : decode cJ6_hugeLength 59 = .ok (.ireturn, 1) := dk_172 (dk_at dksJ6_hugeLength_2 11 rfl rfl)
abbrev cJ6_vectorizedHashCode : ByteArray := prog_60_method_4_code
def yJ6_vectorizedHashCode : MethodName := ⟨RJ6, "vectorizedHashCode", "(Ljava/lang/Object;IIII)I"⟩
def dkwJ6_vectorizedHashCode_6 : List UInt8 := [183, 0, 91, 18, 92, 182, 0, 94, 21, 4, 182, 0, 98, 182, 0, 101, 183, 0, 105, 191, 172]
abbrev dktJ6_vectorizedHashCode_6 : List UInt8 := dkwJ6_vectorizedHashCode_6 ++ []
def dkwJ6_vectorizedHashCode_5 : List UInt8 := [167, 0, 44, 29, 42, 192, 0, 82, 27, 28, 184, 0, 84, 167, 0, 31, 187, 0, 87, 89, 187, 0, 89, 89]
abbrev dktJ6_vectorizedHashCode_5 : List UInt8 := dkwJ6_vectorizedHashCode_5 ++ dktJ6_vectorizedHashCode_6
def dkwJ6_vectorizedHashCode_4 : List UInt8 := [29, 42, 192, 0, 60, 27, 28, 184, 0, 75, 167, 0, 57, 29, 42, 192, 0, 77, 27, 28, 184, 0, 79]
abbrev dktJ6_vectorizedHashCode_4 : List UInt8 := dkwJ6_vectorizedHashCode_4 ++ dktJ6_vectorizedHashCode_5
def dkwJ6_vectorizedHashCode_3 : List UInt8 := [192, 0, 60, 27, 28, 184, 0, 66, 167, 0, 83, 29, 42, 192, 0, 69, 27, 28, 184, 0, 71, 167, 0, 70]
abbrev dktJ6_vectorizedHashCode_3 : List UInt8 := dkwJ6_vectorizedHashCode_3 ++ dktJ6_vectorizedHashCode_4
def dkwJ6_vectorizedHashCode_2 : List UInt8 := [29, 42, 192, 0, 60, 27, 28, 184, 0, 62, 167, 0, 103, 42, 193, 0, 60, 153, 0, 16, 29, 42]
abbrev dktJ6_vectorizedHashCode_2 : List UInt8 := dkwJ6_vectorizedHashCode_2 ++ dktJ6_vectorizedHashCode_3
def dkwJ6_vectorizedHashCode_1 : List UInt8 := [170, 0, 0, 0, 0, 127, 0, 0, 0, 4, 0, 0, 0, 10, 0, 0, 0, 42, 0, 0, 0, 55, 0, 0, 0, 127, 0, 0, 0, 127, 0, 0, 0, 88, 0, 0, 0, 101, 0, 0, 0, 114]
abbrev dktJ6_vectorizedHashCode_1 : List UInt8 := dkwJ6_vectorizedHashCode_1 ++ dktJ6_vectorizedHashCode_2
def dkwJ6_vectorizedHashCode_0 : List UInt8 := [21, 4]
abbrev dktJ6_vectorizedHashCode_0 : List UInt8 := dkwJ6_vectorizedHashCode_0 ++ dktJ6_vectorizedHashCode_1
theorem dksJ6_vectorizedHashCode_0 : cJ6_vectorizedHashCode.data.toList.drop 0 = dktJ6_vectorizedHashCode_0 := by decide +kernel
theorem dksJ6_vectorizedHashCode_1 : cJ6_vectorizedHashCode.data.toList.drop 2 = dktJ6_vectorizedHashCode_1 := dk_seg dksJ6_vectorizedHashCode_0 2 rfl rfl
theorem dksJ6_vectorizedHashCode_2 : cJ6_vectorizedHashCode.data.toList.drop 44 = dktJ6_vectorizedHashCode_2 := dk_seg dksJ6_vectorizedHashCode_1 42 rfl rfl
theorem dksJ6_vectorizedHashCode_3 : cJ6_vectorizedHashCode.data.toList.drop 66 = dktJ6_vectorizedHashCode_3 := dk_seg dksJ6_vectorizedHashCode_2 22 rfl rfl
theorem dksJ6_vectorizedHashCode_4 : cJ6_vectorizedHashCode.data.toList.drop 90 = dktJ6_vectorizedHashCode_4 := dk_seg dksJ6_vectorizedHashCode_3 24 rfl rfl
theorem dksJ6_vectorizedHashCode_5 : cJ6_vectorizedHashCode.data.toList.drop 113 = dktJ6_vectorizedHashCode_5 := dk_seg dksJ6_vectorizedHashCode_4 23 rfl rfl
theorem dksJ6_vectorizedHashCode_6 : cJ6_vectorizedHashCode.data.toList.drop 137 = dktJ6_vectorizedHashCode_6 := dk_seg dksJ6_vectorizedHashCode_5 24 rfl rfl
theorem dJ6_vectorizedHashCode_0 : decode cJ6_vectorizedHashCode 0 = .ok (.iload 4, 2) := dk_21 4 (dk_at dksJ6_vectorizedHashCode_0 0 rfl rfl)
theorem dJ6_vectorizedHashCode_2 : decode cJ6_vectorizedHashCode 2 = .ok (.tableswitch 127 4 10 #[42, 55, 127, 127, 88, 101, 114], 42) := by decide +kernel
theorem dJ6_vectorizedHashCode_44 : decode cJ6_vectorizedHashCode 44 = .ok (.iload_n 3, 1) := dk_29 (dk_at dksJ6_vectorizedHashCode_2 0 rfl rfl)
theorem dJ6_vectorizedHashCode_45 : decode cJ6_vectorizedHashCode 45 = .ok (.aload_n 0, 1) := dk_42 (dk_at dksJ6_vectorizedHashCode_2 1 rfl rfl)
theorem dJ6_vectorizedHashCode_46 : decode cJ6_vectorizedHashCode 46 = .ok (.checkcast 60, 3) := dk_192 0 60 (dk_at dksJ6_vectorizedHashCode_2 2 rfl rfl)
theorem dJ6_vectorizedHashCode_49 : decode cJ6_vectorizedHashCode 49 = .ok (.iload_n 1, 1) := dk_27 (dk_at dksJ6_vectorizedHashCode_2 5 rfl rfl)
theorem dJ6_vectorizedHashCode_50 : decode cJ6_vectorizedHashCode 50 = .ok (.iload_n 2, 1) := dk_28 (dk_at dksJ6_vectorizedHashCode_2 6 rfl rfl)
theorem dJ6_vectorizedHashCode_51 : decode cJ6_vectorizedHashCode 51 = .ok (.invokestatic 62, 3) := dk_184 0 62 (dk_at dksJ6_vectorizedHashCode_2 7 rfl rfl)
theorem dJ6_vectorizedHashCode_54 : decode cJ6_vectorizedHashCode 54 = .ok (.goto 103, 3) := dk_167 0 103 (dk_at dksJ6_vectorizedHashCode_2 10 rfl rfl)
theorem dJ6_vectorizedHashCode_57 : decode cJ6_vectorizedHashCode 57 = .ok (.aload_n 0, 1) := dk_42 (dk_at dksJ6_vectorizedHashCode_2 13 rfl rfl)
theorem dJ6_vectorizedHashCode_58 : decode cJ6_vectorizedHashCode 58 = .ok (.instanceof 60, 3) := dk_193 0 60 (dk_at dksJ6_vectorizedHashCode_2 14 rfl rfl)
theorem dJ6_vectorizedHashCode_61 : decode cJ6_vectorizedHashCode 61 = .ok (.ifCond .eq 16, 3) := dk_153 0 16 (dk_at dksJ6_vectorizedHashCode_2 17 rfl rfl)
theorem dJ6_vectorizedHashCode_64 : decode cJ6_vectorizedHashCode 64 = .ok (.iload_n 3, 1) := dk_29 (dk_at dksJ6_vectorizedHashCode_2 20 rfl rfl)
theorem dJ6_vectorizedHashCode_65 : decode cJ6_vectorizedHashCode 65 = .ok (.aload_n 0, 1) := dk_42 (dk_at dksJ6_vectorizedHashCode_2 21 rfl rfl)
theorem dJ6_vectorizedHashCode_66 : decode cJ6_vectorizedHashCode 66 = .ok (.checkcast 60, 3) := dk_192 0 60 (dk_at dksJ6_vectorizedHashCode_3 0 rfl rfl)
theorem dJ6_vectorizedHashCode_69 : decode cJ6_vectorizedHashCode 69 = .ok (.iload_n 1, 1) := dk_27 (dk_at dksJ6_vectorizedHashCode_3 3 rfl rfl)
theorem dJ6_vectorizedHashCode_70 : decode cJ6_vectorizedHashCode 70 = .ok (.iload_n 2, 1) := dk_28 (dk_at dksJ6_vectorizedHashCode_3 4 rfl rfl)
theorem dJ6_vectorizedHashCode_71 : decode cJ6_vectorizedHashCode 71 = .ok (.invokestatic 66, 3) := dk_184 0 66 (dk_at dksJ6_vectorizedHashCode_3 5 rfl rfl)
theorem dJ6_vectorizedHashCode_74 : decode cJ6_vectorizedHashCode 74 = .ok (.goto 83, 3) := dk_167 0 83 (dk_at dksJ6_vectorizedHashCode_3 8 rfl rfl)
theorem dJ6_vectorizedHashCode_77 : decode cJ6_vectorizedHashCode 77 = .ok (.iload_n 3, 1) := dk_29 (dk_at dksJ6_vectorizedHashCode_3 11 rfl rfl)
theorem dJ6_vectorizedHashCode_78 : decode cJ6_vectorizedHashCode 78 = .ok (.aload_n 0, 1) := dk_42 (dk_at dksJ6_vectorizedHashCode_3 12 rfl rfl)
theorem dJ6_vectorizedHashCode_79 : decode cJ6_vectorizedHashCode 79 = .ok (.checkcast 69, 3) := dk_192 0 69 (dk_at dksJ6_vectorizedHashCode_3 13 rfl rfl)
theorem dJ6_vectorizedHashCode_82 : decode cJ6_vectorizedHashCode 82 = .ok (.iload_n 1, 1) := dk_27 (dk_at dksJ6_vectorizedHashCode_3 16 rfl rfl)
theorem dJ6_vectorizedHashCode_83 : decode cJ6_vectorizedHashCode 83 = .ok (.iload_n 2, 1) := dk_28 (dk_at dksJ6_vectorizedHashCode_3 17 rfl rfl)
theorem dJ6_vectorizedHashCode_84 : decode cJ6_vectorizedHashCode 84 = .ok (.invokestatic 71, 3) := dk_184 0 71 (dk_at dksJ6_vectorizedHashCode_3 18 rfl rfl)
theorem dJ6_vectorizedHashCode_87 : decode cJ6_vectorizedHashCode 87 = .ok (.goto 70, 3) := dk_167 0 70 (dk_at dksJ6_vectorizedHashCode_3 21 rfl rfl)
theorem dJ6_vectorizedHashCode_90 : decode cJ6_vectorizedHashCode 90 = .ok (.iload_n 3, 1) := dk_29 (dk_at dksJ6_vectorizedHashCode_4 0 rfl rfl)
theorem dJ6_vectorizedHashCode_91 : decode cJ6_vectorizedHashCode 91 = .ok (.aload_n 0, 1) := dk_42 (dk_at dksJ6_vectorizedHashCode_4 1 rfl rfl)
theorem dJ6_vectorizedHashCode_92 : decode cJ6_vectorizedHashCode 92 = .ok (.checkcast 60, 3) := dk_192 0 60 (dk_at dksJ6_vectorizedHashCode_4 2 rfl rfl)
theorem dJ6_vectorizedHashCode_95 : decode cJ6_vectorizedHashCode 95 = .ok (.iload_n 1, 1) := dk_27 (dk_at dksJ6_vectorizedHashCode_4 5 rfl rfl)
theorem dJ6_vectorizedHashCode_96 : decode cJ6_vectorizedHashCode 96 = .ok (.iload_n 2, 1) := dk_28 (dk_at dksJ6_vectorizedHashCode_4 6 rfl rfl)
theorem dJ6_vectorizedHashCode_97 : decode cJ6_vectorizedHashCode 97 = .ok (.invokestatic 75, 3) := dk_184 0 75 (dk_at dksJ6_vectorizedHashCode_4 7 rfl rfl)
theorem dJ6_vectorizedHashCode_100 : decode cJ6_vectorizedHashCode 100 = .ok (.goto 57, 3) := dk_167 0 57 (dk_at dksJ6_vectorizedHashCode_4 10 rfl rfl)
theorem dJ6_vectorizedHashCode_103 : decode cJ6_vectorizedHashCode 103 = .ok (.iload_n 3, 1) := dk_29 (dk_at dksJ6_vectorizedHashCode_4 13 rfl rfl)
theorem dJ6_vectorizedHashCode_104 : decode cJ6_vectorizedHashCode 104 = .ok (.aload_n 0, 1) := dk_42 (dk_at dksJ6_vectorizedHashCode_4 14 rfl rfl)
theorem dJ6_vectorizedHashCode_105 : decode cJ6_vectorizedHashCode 105 = .ok (.checkcast 77, 3) := dk_192 0 77 (dk_at dksJ6_vectorizedHashCode_4 15 rfl rfl)
theorem dJ6_vectorizedHashCode_108 : decode cJ6_vectorizedHashCode 108 = .ok (.iload_n 1, 1) := dk_27 (dk_at dksJ6_vectorizedHashCode_4 18 rfl rfl)
theorem dJ6_vectorizedHashCode_109 : decode cJ6_vectorizedHashCode 109 = .ok (.iload_n 2, 1) := dk_28 (dk_at dksJ6_vectorizedHashCode_4 19 rfl rfl)
theorem dJ6_vectorizedHashCode_110 : decode cJ6_vectorizedHashCode 110 = .ok (.invokestatic 79, 3) := dk_184 0 79 (dk_at dksJ6_vectorizedHashCode_4 20 rfl rfl)
theorem dJ6_vectorizedHashCode_113 : decode cJ6_vectorizedHashCode 113 = .ok (.goto 44, 3) := dk_167 0 44 (dk_at dksJ6_vectorizedHashCode_5 0 rfl rfl)
theorem dJ6_vectorizedHashCode_116 : decode cJ6_vectorizedHashCode 116 = .ok (.iload_n 3, 1) := dk_29 (dk_at dksJ6_vectorizedHashCode_5 3 rfl rfl)
theorem dJ6_vectorizedHashCode_117 : decode cJ6_vectorizedHashCode 117 = .ok (.aload_n 0, 1) := dk_42 (dk_at dksJ6_vectorizedHashCode_5 4 rfl rfl)
theorem dJ6_vectorizedHashCode_118 : decode cJ6_vectorizedHashCode 118 = .ok (.checkcast 82, 3) := dk_192 0 82 (dk_at dksJ6_vectorizedHashCode_5 5 rfl rfl)
theorem dJ6_vectorizedHashCode_121 : decode cJ6_vectorizedHashCode 121 = .ok (.iload_n 1, 1) := dk_27 (dk_at dksJ6_vectorizedHashCode_5 8 rfl rfl)
theorem dJ6_vectorizedHashCode_122 : decode cJ6_vectorizedHashCode 122 = .ok (.iload_n 2, 1) := dk_28 (dk_at dksJ6_vectorizedHashCode_5 9 rfl rfl)
theorem dJ6_vectorizedHashCode_123 : decode cJ6_vectorizedHashCode 123 = .ok (.invokestatic 84, 3) := dk_184 0 84 (dk_at dksJ6_vectorizedHashCode_5 10 rfl rfl)
theorem dJ6_vectorizedHashCode_126 : decode cJ6_vectorizedHashCode 126 = .ok (.goto 31, 3) := dk_167 0 31 (dk_at dksJ6_vectorizedHashCode_5 13 rfl rfl)
theorem dJ6_vectorizedHashCode_129 : decode cJ6_vectorizedHashCode 129 = .ok (.new 87, 3) := dk_187 0 87 (dk_at dksJ6_vectorizedHashCode_5 16 rfl rfl)
theorem dJ6_vectorizedHashCode_132 : decode cJ6_vectorizedHashCode 132 = .ok (.dup, 1) := dk_89 (dk_at dksJ6_vectorizedHashCode_5 19 rfl rfl)
theorem dJ6_vectorizedHashCode_133 : decode cJ6_vectorizedHashCode 133 = .ok (.new 89, 3) := dk_187 0 89 (dk_at dksJ6_vectorizedHashCode_5 20 rfl rfl)
theorem dJ6_vectorizedHashCode_136 : decode cJ6_vectorizedHashCode 136 = .ok (.dup, 1) := dk_89 (dk_at dksJ6_vectorizedHashCode_5 23 rfl rfl)
theorem dJ6_vectorizedHashCode_137 : decode cJ6_vectorizedHashCode 137 = .ok (.invokespecial 91, 3) := dk_183 0 91 (dk_at dksJ6_vectorizedHashCode_6 0 rfl rfl)
theorem dJ6_vectorizedHashCode_140 : decode cJ6_vectorizedHashCode 140 = .ok (.ldc 92, 2) := dk_18 92 (dk_at dksJ6_vectorizedHashCode_6 3 rfl rfl)
theorem dJ6_vectorizedHashCode_142 : decode cJ6_vectorizedHashCode 142 = .ok (.invokevirtual 94, 3) := dk_182 0 94 (dk_at dksJ6_vectorizedHashCode_6 5 rfl rfl)
theorem dJ6_vectorizedHashCode_145 : decode cJ6_vectorizedHashCode 145 = .ok (.iload 4, 2) := dk_21 4 (dk_at dksJ6_vectorizedHashCode_6 8 rfl rfl)
theorem dJ6_vectorizedHashCode_147 : decode cJ6_vectorizedHashCode 147 = .ok (.invokevirtual 98, 3) := dk_182 0 98 (dk_at dksJ6_vectorizedHashCode_6 10 rfl rfl)
theorem dJ6_vectorizedHashCode_150 : decode cJ6_vectorizedHashCode 150 = .ok (.invokevirtual 101, 3) := dk_182 0 101 (dk_at dksJ6_vectorizedHashCode_6 13 rfl rfl)
theorem dJ6_vectorizedHashCode_153 : decode cJ6_vectorizedHashCode 153 = .ok (.invokespecial 105, 3) := dk_183 0 105 (dk_at dksJ6_vectorizedHashCode_6 16 rfl rfl)
theorem dJ6_vectorizedHashCode_156 : decode cJ6_vectorizedHashCode 156 = .ok (.athrow, 1) := dk_191 (dk_at dksJ6_vectorizedHashCode_6 19 rfl rfl)
theorem dJ6_vectorizedHashCode_157 : decode cJ6_vectorizedHashCode 157 = .ok (.ireturn, 1) := dk_172 (dk_at dksJ6_vectorizedHashCode_6 20 rfl rfl)
abbrev cJ6_signedHashCode : ByteArray := prog_60_method_5_code
def yJ6_signedHashCode : MethodName := ⟨RJ6, "signedHashCode", "(I[BII)I"⟩
def dkwJ6_signedHashCode_1 : List UInt8 := [17, 0, 255, 126, 96, 59, 132, 5, 1, 167, 255, 232, 26, 172]
abbrev dktJ6_signedHashCode_1 : List UInt8 := dkwJ6_signedHashCode_1 ++ []
def dkwJ6_signedHashCode_0 : List UInt8 := [28, 29, 96, 54, 4, 28, 54, 5, 21, 5, 21, 4, 162, 0, 23, 16, 31, 26, 104, 43, 21, 5, 51]
abbrev dktJ6_signedHashCode_0 : List UInt8 := dkwJ6_signedHashCode_0 ++ dktJ6_signedHashCode_1
theorem dksJ6_signedHashCode_0 : cJ6_signedHashCode.data.toList.drop 0 = dktJ6_signedHashCode_0 := by decide +kernel
theorem dksJ6_signedHashCode_1 : cJ6_signedHashCode.data.toList.drop 23 = dktJ6_signedHashCode_1 := dk_seg dksJ6_signedHashCode_0 23 rfl rfl
theorem dJ6_signedHashCode_0 : decode cJ6_signedHashCode 0 = .ok (.iload_n 2, 1) := dk_28 (dk_at dksJ6_signedHashCode_0 0 rfl rfl)
theorem dJ6_signedHashCode_1 : decode cJ6_signedHashCode 1 = .ok (.iload_n 3, 1) := dk_29 (dk_at dksJ6_signedHashCode_0 1 rfl rfl)
theorem dJ6_signedHashCode_2 : decode cJ6_signedHashCode 2 = .ok (.iadd, 1) := dk_96 (dk_at dksJ6_signedHashCode_0 2 rfl rfl)
theorem dJ6_signedHashCode_3 : decode cJ6_signedHashCode 3 = .ok (.istore 4, 2) := dk_54 4 (dk_at dksJ6_signedHashCode_0 3 rfl rfl)
theorem dJ6_signedHashCode_5 : decode cJ6_signedHashCode 5 = .ok (.iload_n 2, 1) := dk_28 (dk_at dksJ6_signedHashCode_0 5 rfl rfl)
theorem dJ6_signedHashCode_6 : decode cJ6_signedHashCode 6 = .ok (.istore 5, 2) := dk_54 5 (dk_at dksJ6_signedHashCode_0 6 rfl rfl)
theorem dJ6_signedHashCode_8 : decode cJ6_signedHashCode 8 = .ok (.iload 5, 2) := dk_21 5 (dk_at dksJ6_signedHashCode_0 8 rfl rfl)
theorem dJ6_signedHashCode_10 : decode cJ6_signedHashCode 10 = .ok (.iload 4, 2) := dk_21 4 (dk_at dksJ6_signedHashCode_0 10 rfl rfl)
theorem dJ6_signedHashCode_12 : decode cJ6_signedHashCode 12 = .ok (.if_icmp .ge 23, 3) := dk_162 0 23 (dk_at dksJ6_signedHashCode_0 12 rfl rfl)
theorem dJ6_signedHashCode_15 : decode cJ6_signedHashCode 15 = .ok (.bipush 31, 2) := dk_16 31 (dk_at dksJ6_signedHashCode_0 15 rfl rfl)
theorem dJ6_signedHashCode_17 : decode cJ6_signedHashCode 17 = .ok (.iload_n 0, 1) := dk_26 (dk_at dksJ6_signedHashCode_0 17 rfl rfl)
theorem dJ6_signedHashCode_18 : decode cJ6_signedHashCode 18 = .ok (.imul, 1) := dk_104 (dk_at dksJ6_signedHashCode_0 18 rfl rfl)
theorem dJ6_signedHashCode_19 : decode cJ6_signedHashCode 19 = .ok (.aload_n 1, 1) := dk_43 (dk_at dksJ6_signedHashCode_0 19 rfl rfl)
theorem dJ6_signedHashCode_20 : decode cJ6_signedHashCode 20 = .ok (.iload 5, 2) := dk_21 5 (dk_at dksJ6_signedHashCode_0 20 rfl rfl)
theorem dJ6_signedHashCode_22 : decode cJ6_signedHashCode 22 = .ok (.baload, 1) := dk_51 (dk_at dksJ6_signedHashCode_0 22 rfl rfl)
theorem dJ6_signedHashCode_23 : decode cJ6_signedHashCode 23 = .ok (.sipush 255, 3) := dk_17 0 255 (dk_at dksJ6_signedHashCode_1 0 rfl rfl)
theorem dJ6_signedHashCode_26 : decode cJ6_signedHashCode 26 = .ok (.iand, 1) := dk_126 (dk_at dksJ6_signedHashCode_1 3 rfl rfl)
theorem dJ6_signedHashCode_27 : decode cJ6_signedHashCode 27 = .ok (.iadd, 1) := dk_96 (dk_at dksJ6_signedHashCode_1 4 rfl rfl)
theorem dJ6_signedHashCode_28 : decode cJ6_signedHashCode 28 = .ok (.istore_n 0, 1) := dk_59 (dk_at dksJ6_signedHashCode_1 5 rfl rfl)
theorem dJ6_signedHashCode_29 : decode cJ6_signedHashCode 29 = .ok (.iinc 5 1, 3) := dk_132 5 1 (dk_at dksJ6_signedHashCode_1 6 rfl rfl)
theorem dJ6_signedHashCode_32 : decode cJ6_signedHashCode 32 = .ok (.goto (-24), 3) := dk_167 255 232 (dk_at dksJ6_signedHashCode_1 9 rfl rfl)
theorem dJ6_signedHashCode_35 : decode cJ6_signedHashCode 35 = .ok (.iload_n 0, 1) := dk_26 (dk_at dksJ6_signedHashCode_1 12 rfl rfl)
theorem dJ6_signedHashCode_36 : decode cJ6_signedHashCode 36 = .ok (.ireturn, 1) := dk_172 (dk_at dksJ6_signedHashCode_1 13 rfl rfl)
abbrev cJ6_utf16hashCode : ByteArray := prog_60_method_10_code
def yJ6_utf16hashCode : MethodName := ⟨RJ6, "utf16hashCode", "(I[BII)I"⟩
def dkwJ6_utf16hashCode_1 : List UInt8 := [21, 5, 185, 0, 110, 3, 0, 96, 59, 132, 5, 1, 167, 255, 229, 26, 172]
abbrev dktJ6_utf16hashCode_1 : List UInt8 := dkwJ6_utf16hashCode_1 ++ []
def dkwJ6_utf16hashCode_0 : List UInt8 := [28, 29, 96, 54, 4, 28, 54, 5, 21, 5, 21, 4, 162, 0, 26, 16, 31, 26, 104, 178, 0, 106, 43]
abbrev dktJ6_utf16hashCode_0 : List UInt8 := dkwJ6_utf16hashCode_0 ++ dktJ6_utf16hashCode_1
theorem dksJ6_utf16hashCode_0 : cJ6_utf16hashCode.data.toList.drop 0 = dktJ6_utf16hashCode_0 := by decide +kernel
theorem dksJ6_utf16hashCode_1 : cJ6_utf16hashCode.data.toList.drop 23 = dktJ6_utf16hashCode_1 := dk_seg dksJ6_utf16hashCode_0 23 rfl rfl
theorem dJ6_utf16hashCode_0 : decode cJ6_utf16hashCode 0 = .ok (.iload_n 2, 1) := dk_28 (dk_at dksJ6_utf16hashCode_0 0 rfl rfl)
theorem dJ6_utf16hashCode_1 : decode cJ6_utf16hashCode 1 = .ok (.iload_n 3, 1) := dk_29 (dk_at dksJ6_utf16hashCode_0 1 rfl rfl)
theorem dJ6_utf16hashCode_2 : decode cJ6_utf16hashCode 2 = .ok (.iadd, 1) := dk_96 (dk_at dksJ6_utf16hashCode_0 2 rfl rfl)
theorem dJ6_utf16hashCode_3 : decode cJ6_utf16hashCode 3 = .ok (.istore 4, 2) := dk_54 4 (dk_at dksJ6_utf16hashCode_0 3 rfl rfl)
theorem dJ6_utf16hashCode_5 : decode cJ6_utf16hashCode 5 = .ok (.iload_n 2, 1) := dk_28 (dk_at dksJ6_utf16hashCode_0 5 rfl rfl)
theorem dJ6_utf16hashCode_6 : decode cJ6_utf16hashCode 6 = .ok (.istore 5, 2) := dk_54 5 (dk_at dksJ6_utf16hashCode_0 6 rfl rfl)
theorem dJ6_utf16hashCode_8 : decode cJ6_utf16hashCode 8 = .ok (.iload 5, 2) := dk_21 5 (dk_at dksJ6_utf16hashCode_0 8 rfl rfl)
theorem dJ6_utf16hashCode_10 : decode cJ6_utf16hashCode 10 = .ok (.iload 4, 2) := dk_21 4 (dk_at dksJ6_utf16hashCode_0 10 rfl rfl)
theorem dJ6_utf16hashCode_12 : decode cJ6_utf16hashCode 12 = .ok (.if_icmp .ge 26, 3) := dk_162 0 26 (dk_at dksJ6_utf16hashCode_0 12 rfl rfl)
theorem dJ6_utf16hashCode_15 : decode cJ6_utf16hashCode 15 = .ok (.bipush 31, 2) := dk_16 31 (dk_at dksJ6_utf16hashCode_0 15 rfl rfl)
theorem dJ6_utf16hashCode_17 : decode cJ6_utf16hashCode 17 = .ok (.iload_n 0, 1) := dk_26 (dk_at dksJ6_utf16hashCode_0 17 rfl rfl)
theorem dJ6_utf16hashCode_18 : decode cJ6_utf16hashCode 18 = .ok (.imul, 1) := dk_104 (dk_at dksJ6_utf16hashCode_0 18 rfl rfl)
theorem dJ6_utf16hashCode_19 : decode cJ6_utf16hashCode 19 = .ok (.getstatic 106, 3) := dk_178 0 106 (dk_at dksJ6_utf16hashCode_0 19 rfl rfl)
theorem dJ6_utf16hashCode_22 : decode cJ6_utf16hashCode 22 = .ok (.aload_n 1, 1) := dk_43 (dk_at dksJ6_utf16hashCode_0 22 rfl rfl)
theorem dJ6_utf16hashCode_23 : decode cJ6_utf16hashCode 23 = .ok (.iload 5, 2) := dk_21 5 (dk_at dksJ6_utf16hashCode_1 0 rfl rfl)
theorem dJ6_utf16hashCode_25 : decode cJ6_utf16hashCode 25 = .ok (.invokeinterface 110 3, 5) := by decide +kernel
theorem dJ6_utf16hashCode_30 : decode cJ6_utf16hashCode 30 = .ok (.iadd, 1) := dk_96 (dk_at dksJ6_utf16hashCode_1 7 rfl rfl)
theorem dJ6_utf16hashCode_31 : decode cJ6_utf16hashCode 31 = .ok (.istore_n 0, 1) := dk_59 (dk_at dksJ6_utf16hashCode_1 8 rfl rfl)
theorem dJ6_utf16hashCode_32 : decode cJ6_utf16hashCode 32 = .ok (.iinc 5 1, 3) := dk_132 5 1 (dk_at dksJ6_utf16hashCode_1 9 rfl rfl)
theorem dJ6_utf16hashCode_35 : decode cJ6_utf16hashCode 35 = .ok (.goto (-27), 3) := dk_167 255 229 (dk_at dksJ6_utf16hashCode_1 12 rfl rfl)
theorem dJ6_utf16hashCode_38 : decode cJ6_utf16hashCode 38 = .ok (.iload_n 0, 1) := dk_26 (dk_at dksJ6_utf16hashCode_1 15 rfl rfl)
theorem dJ6_utf16hashCode_39 : decode cJ6_utf16hashCode 39 = .ok (.ireturn, 1) := dk_172 (dk_at dksJ6_utf16hashCode_1 16 rfl rfl)
abbrev cJ6_hashCode : ByteArray := prog_60_method_7_code
def yJ6_hashCode : MethodName := ⟨RJ6, "hashCode", "(I[CII)I"⟩
def dkwJ6_hashCode_1 : List UInt8 := [59, 132, 5, 1, 167, 255, 236, 26, 172]
abbrev dktJ6_hashCode_1 : List UInt8 := dkwJ6_hashCode_1 ++ []
def dkwJ6_hashCode_0 : List UInt8 := [28, 29, 96, 54, 4, 28, 54, 5, 21, 5, 21, 4, 162, 0, 19, 16, 31, 26, 104, 43, 21, 5, 52, 96]
abbrev dktJ6_hashCode_0 : List UInt8 := dkwJ6_hashCode_0 ++ dktJ6_hashCode_1
theorem dksJ6_hashCode_0 : cJ6_hashCode.data.toList.drop 0 = dktJ6_hashCode_0 := by decide +kernel
theorem dksJ6_hashCode_1 : cJ6_hashCode.data.toList.drop 24 = dktJ6_hashCode_1 := dk_seg dksJ6_hashCode_0 24 rfl rfl
theorem dJ6_hashCode_0 : decode cJ6_hashCode 0 = .ok (.iload_n 2, 1) := dk_28 (dk_at dksJ6_hashCode_0 0 rfl rfl)
theorem dJ6_hashCode_1 : decode cJ6_hashCode 1 = .ok (.iload_n 3, 1) := dk_29 (dk_at dksJ6_hashCode_0 1 rfl rfl)
theorem dJ6_hashCode_2 : decode cJ6_hashCode 2 = .ok (.iadd, 1) := dk_96 (dk_at dksJ6_hashCode_0 2 rfl rfl)
theorem dJ6_hashCode_3 : decode cJ6_hashCode 3 = .ok (.istore 4, 2) := dk_54 4 (dk_at dksJ6_hashCode_0 3 rfl rfl)
theorem dJ6_hashCode_5 : decode cJ6_hashCode 5 = .ok (.iload_n 2, 1) := dk_28 (dk_at dksJ6_hashCode_0 5 rfl rfl)
theorem dJ6_hashCode_6 : decode cJ6_hashCode 6 = .ok (.istore 5, 2) := dk_54 5 (dk_at dksJ6_hashCode_0 6 rfl rfl)
theorem dJ6_hashCode_8 : decode cJ6_hashCode 8 = .ok (.iload 5, 2) := dk_21 5 (dk_at dksJ6_hashCode_0 8 rfl rfl)
theorem dJ6_hashCode_10 : decode cJ6_hashCode 10 = .ok (.iload 4, 2) := dk_21 4 (dk_at dksJ6_hashCode_0 10 rfl rfl)
theorem dJ6_hashCode_12 : decode cJ6_hashCode 12 = .ok (.if_icmp .ge 19, 3) := dk_162 0 19 (dk_at dksJ6_hashCode_0 12 rfl rfl)
theorem dJ6_hashCode_15 : decode cJ6_hashCode 15 = .ok (.bipush 31, 2) := dk_16 31 (dk_at dksJ6_hashCode_0 15 rfl rfl)
theorem dJ6_hashCode_17 : decode cJ6_hashCode 17 = .ok (.iload_n 0, 1) := dk_26 (dk_at dksJ6_hashCode_0 17 rfl rfl)
theorem dJ6_hashCode_18 : decode cJ6_hashCode 18 = .ok (.imul, 1) := dk_104 (dk_at dksJ6_hashCode_0 18 rfl rfl)
theorem dJ6_hashCode_19 : decode cJ6_hashCode 19 = .ok (.aload_n 1, 1) := dk_43 (dk_at dksJ6_hashCode_0 19 rfl rfl)
theorem dJ6_hashCode_20 : decode cJ6_hashCode 20 = .ok (.iload 5, 2) := dk_21 5 (dk_at dksJ6_hashCode_0 20 rfl rfl)
theorem dJ6_hashCode_22 : decode cJ6_hashCode 22 = .ok (.caload, 1) := dk_52 (dk_at dksJ6_hashCode_0 22 rfl rfl)
theorem dJ6_hashCode_23 : decode cJ6_hashCode 23 = .ok (.iadd, 1) := dk_96 (dk_at dksJ6_hashCode_0 23 rfl rfl)
theorem dJ6_hashCode_24 : decode cJ6_hashCode 24 = .ok (.istore_n 0, 1) := dk_59 (dk_at dksJ6_hashCode_1 0 rfl rfl)
theorem dJ6_hashCode_25 : decode cJ6_hashCode 25 = .ok (.iinc 5 1, 3) := dk_132 5 1 (dk_at dksJ6_hashCode_1 1 rfl rfl)
theorem dJ6_hashCode_28 : decode cJ6_hashCode 28 = .ok (.goto (-20), 3) := dk_167 255 236 (dk_at dksJ6_hashCode_1 4 rfl rfl)
theorem dJ6_hashCode_31 : decode cJ6_hashCode 31 = .ok (.iload_n 0, 1) := dk_26 (dk_at dksJ6_hashCode_1 7 rfl rfl)
theorem dJ6_hashCode_32 : decode cJ6_hashCode 32 = .ok (.ireturn, 1) := dk_172 (dk_at dksJ6_hashCode_1 8 rfl rfl)
abbrev cJ6_hashCode_2 : ByteArray := prog_60_method_6_code
def yJ6_hashCode_2 : MethodName := ⟨RJ6, "hashCode", "(I[BII)I"⟩
def dkwJ6_hashCode_2_1 : List UInt8 := [59, 132, 5, 1, 167, 255, 236, 26, 172]
abbrev dktJ6_hashCode_2_1 : List UInt8 := dkwJ6_hashCode_2_1 ++ []
def dkwJ6_hashCode_2_0 : List UInt8 := [28, 29, 96, 54, 4, 28, 54, 5, 21, 5, 21, 4, 162, 0, 19, 16, 31, 26, 104, 43, 21, 5, 51, 96]
abbrev dktJ6_hashCode_2_0 : List UInt8 := dkwJ6_hashCode_2_0 ++ dktJ6_hashCode_2_1
theorem dksJ6_hashCode_2_0 : cJ6_hashCode_2.data.toList.drop 0 = dktJ6_hashCode_2_0 := by decide +kernel
theorem dksJ6_hashCode_2_1 : cJ6_hashCode_2.data.toList.drop 24 = dktJ6_hashCode_2_1 := dk_seg dksJ6_hashCode_2_0 24 rfl rfl
theorem dJ6_hashCode_2_0 : decode cJ6_hashCode_2 0 = .ok (.iload_n 2, 1) := dk_28 (dk_at dksJ6_hashCode_2_0 0 rfl rfl)
theorem dJ6_hashCode_2_1 : decode cJ6_hashCode_2 1 = .ok (.iload_n 3, 1) := dk_29 (dk_at dksJ6_hashCode_2_0 1 rfl rfl)
theorem dJ6_hashCode_2_2 : decode cJ6_hashCode_2 2 = .ok (.iadd, 1) := dk_96 (dk_at dksJ6_hashCode_2_0 2 rfl rfl)
theorem dJ6_hashCode_2_3 : decode cJ6_hashCode_2 3 = .ok (.istore 4, 2) := dk_54 4 (dk_at dksJ6_hashCode_2_0 3 rfl rfl)
theorem dJ6_hashCode_2_5 : decode cJ6_hashCode_2 5 = .ok (.iload_n 2, 1) := dk_28 (dk_at dksJ6_hashCode_2_0 5 rfl rfl)
theorem dJ6_hashCode_2_6 : decode cJ6_hashCode_2 6 = .ok (.istore 5, 2) := dk_54 5 (dk_at dksJ6_hashCode_2_0 6 rfl rfl)
theorem dJ6_hashCode_2_8 : decode cJ6_hashCode_2 8 = .ok (.iload 5, 2) := dk_21 5 (dk_at dksJ6_hashCode_2_0 8 rfl rfl)
theorem dJ6_hashCode_2_10 : decode cJ6_hashCode_2 10 = .ok (.iload 4, 2) := dk_21 4 (dk_at dksJ6_hashCode_2_0 10 rfl rfl)
theorem dJ6_hashCode_2_12 : decode cJ6_hashCode_2 12 = .ok (.if_icmp .ge 19, 3) := dk_162 0 19 (dk_at dksJ6_hashCode_2_0 12 rfl rfl)
theorem dJ6_hashCode_2_15 : decode cJ6_hashCode_2 15 = .ok (.bipush 31, 2) := dk_16 31 (dk_at dksJ6_hashCode_2_0 15 rfl rfl)
theorem dJ6_hashCode_2_17 : decode cJ6_hashCode_2 17 = .ok (.iload_n 0, 1) := dk_26 (dk_at dksJ6_hashCode_2_0 17 rfl rfl)
theorem dJ6_hashCode_2_18 : decode cJ6_hashCode_2 18 = .ok (.imul, 1) := dk_104 (dk_at dksJ6_hashCode_2_0 18 rfl rfl)
theorem dJ6_hashCode_2_19 : decode cJ6_hashCode_2 19 = .ok (.aload_n 1, 1) := dk_43 (dk_at dksJ6_hashCode_2_0 19 rfl rfl)
theorem dJ6_hashCode_2_20 : decode cJ6_hashCode_2 20 = .ok (.iload 5, 2) := dk_21 5 (dk_at dksJ6_hashCode_2_0 20 rfl rfl)
theorem dJ6_hashCode_2_22 : decode cJ6_hashCode_2 22 = .ok (.baload, 1) := dk_51 (dk_at dksJ6_hashCode_2_0 22 rfl rfl)
theorem dJ6_hashCode_2_23 : decode cJ6_hashCode_2 23 = .ok (.iadd, 1) := dk_96 (dk_at dksJ6_hashCode_2_0 23 rfl rfl)
theorem dJ6_hashCode_2_24 : decode cJ6_hashCode_2 24 = .ok (.istore_n 0, 1) := dk_59 (dk_at dksJ6_hashCode_2_1 0 rfl rfl)
theorem dJ6_hashCode_2_25 : decode cJ6_hashCode_2 25 = .ok (.iinc 5 1, 3) := dk_132 5 1 (dk_at dksJ6_hashCode_2_1 1 rfl rfl)
theorem dJ6_hashCode_2_28 : decode cJ6_hashCode_2 28 = .ok (.goto (-20), 3) := dk_167 255 236 (dk_at dksJ6_hashCode_2_1 4 rfl rfl)
theorem dJ6_hashCode_2_31 : decode cJ6_hashCode_2 31 = .ok (.iload_n 0, 1) := dk_26 (dk_at dksJ6_hashCode_2_1 7 rfl rfl)
theorem dJ6_hashCode_2_32 : decode cJ6_hashCode_2 32 = .ok (.ireturn, 1) := dk_172 (dk_at dksJ6_hashCode_2_1 8 rfl rfl)
abbrev cJ6_hashCode_3 : ByteArray := prog_60_method_8_code
def yJ6_hashCode_3 : MethodName := ⟨RJ6, "hashCode", "(I[SII)I"⟩
def dkwJ6_hashCode_3_1 : List UInt8 := [59, 132, 5, 1, 167, 255, 236, 26, 172]
abbrev dktJ6_hashCode_3_1 : List UInt8 := dkwJ6_hashCode_3_1 ++ []
def dkwJ6_hashCode_3_0 : List UInt8 := [28, 29, 96, 54, 4, 28, 54, 5, 21, 5, 21, 4, 162, 0, 19, 16, 31, 26, 104, 43, 21, 5, 53, 96]
abbrev dktJ6_hashCode_3_0 : List UInt8 := dkwJ6_hashCode_3_0 ++ dktJ6_hashCode_3_1
theorem dksJ6_hashCode_3_0 : cJ6_hashCode_3.data.toList.drop 0 = dktJ6_hashCode_3_0 := by decide +kernel
theorem dksJ6_hashCode_3_1 : cJ6_hashCode_3.data.toList.drop 24 = dktJ6_hashCode_3_1 := dk_seg dksJ6_hashCode_3_0 24 rfl rfl
theorem dJ6_hashCode_3_0 : decode cJ6_hashCode_3 0 = .ok (.iload_n 2, 1) := dk_28 (dk_at dksJ6_hashCode_3_0 0 rfl rfl)
theorem dJ6_hashCode_3_1 : decode cJ6_hashCode_3 1 = .ok (.iload_n 3, 1) := dk_29 (dk_at dksJ6_hashCode_3_0 1 rfl rfl)
theorem dJ6_hashCode_3_2 : decode cJ6_hashCode_3 2 = .ok (.iadd, 1) := dk_96 (dk_at dksJ6_hashCode_3_0 2 rfl rfl)
theorem dJ6_hashCode_3_3 : decode cJ6_hashCode_3 3 = .ok (.istore 4, 2) := dk_54 4 (dk_at dksJ6_hashCode_3_0 3 rfl rfl)
theorem dJ6_hashCode_3_5 : decode cJ6_hashCode_3 5 = .ok (.iload_n 2, 1) := dk_28 (dk_at dksJ6_hashCode_3_0 5 rfl rfl)
theorem dJ6_hashCode_3_6 : decode cJ6_hashCode_3 6 = .ok (.istore 5, 2) := dk_54 5 (dk_at dksJ6_hashCode_3_0 6 rfl rfl)
theorem dJ6_hashCode_3_8 : decode cJ6_hashCode_3 8 = .ok (.iload 5, 2) := dk_21 5 (dk_at dksJ6_hashCode_3_0 8 rfl rfl)
theorem dJ6_hashCode_3_10 : decode cJ6_hashCode_3 10 = .ok (.iload 4, 2) := dk_21 4 (dk_at dksJ6_hashCode_3_0 10 rfl rfl)
theorem dJ6_hashCode_3_12 : decode cJ6_hashCode_3 12 = .ok (.if_icmp .ge 19, 3) := dk_162 0 19 (dk_at dksJ6_hashCode_3_0 12 rfl rfl)
theorem dJ6_hashCode_3_15 : decode cJ6_hashCode_3 15 = .ok (.bipush 31, 2) := dk_16 31 (dk_at dksJ6_hashCode_3_0 15 rfl rfl)
theorem dJ6_hashCode_3_17 : decode cJ6_hashCode_3 17 = .ok (.iload_n 0, 1) := dk_26 (dk_at dksJ6_hashCode_3_0 17 rfl rfl)
theorem dJ6_hashCode_3_18 : decode cJ6_hashCode_3 18 = .ok (.imul, 1) := dk_104 (dk_at dksJ6_hashCode_3_0 18 rfl rfl)
theorem dJ6_hashCode_3_19 : decode cJ6_hashCode_3 19 = .ok (.aload_n 1, 1) := dk_43 (dk_at dksJ6_hashCode_3_0 19 rfl rfl)
theorem dJ6_hashCode_3_20 : decode cJ6_hashCode_3 20 = .ok (.iload 5, 2) := dk_21 5 (dk_at dksJ6_hashCode_3_0 20 rfl rfl)
theorem dJ6_hashCode_3_22 : decode cJ6_hashCode_3 22 = .ok (.saload, 1) := dk_53 (dk_at dksJ6_hashCode_3_0 22 rfl rfl)
theorem dJ6_hashCode_3_23 : decode cJ6_hashCode_3 23 = .ok (.iadd, 1) := dk_96 (dk_at dksJ6_hashCode_3_0 23 rfl rfl)
theorem dJ6_hashCode_3_24 : decode cJ6_hashCode_3 24 = .ok (.istore_n 0, 1) := dk_59 (dk_at dksJ6_hashCode_3_1 0 rfl rfl)
theorem dJ6_hashCode_3_25 : decode cJ6_hashCode_3 25 = .ok (.iinc 5 1, 3) := dk_132 5 1 (dk_at dksJ6_hashCode_3_1 1 rfl rfl)
theorem dJ6_hashCode_3_28 : decode cJ6_hashCode_3 28 = .ok (.goto (-20), 3) := dk_167 255 236 (dk_at dksJ6_hashCode_3_1 4 rfl rfl)
theorem dJ6_hashCode_3_31 : decode cJ6_hashCode_3 31 = .ok (.iload_n 0, 1) := dk_26 (dk_at dksJ6_hashCode_3_1 7 rfl rfl)
theorem dJ6_hashCode_3_32 : decode cJ6_hashCode_3 32 = .ok (.ireturn, 1) := dk_172 (dk_at dksJ6_hashCode_3_1 8 rfl rfl)
abbrev cJ6_hashCode_4 : ByteArray := prog_60_method_9_code
def yJ6_hashCode_4 : MethodName := ⟨RJ6, "hashCode", "(I[III)I"⟩
def dkwJ6_hashCode_4_1 : List UInt8 := [59, 132, 5, 1, 167, 255, 236, 26, 172]
abbrev dktJ6_hashCode_4_1 : List UInt8 := dkwJ6_hashCode_4_1 ++ []
def dkwJ6_hashCode_4_0 : List UInt8 := [28, 29, 96, 54, 4, 28, 54, 5, 21, 5, 21, 4, 162, 0, 19, 16, 31, 26, 104, 43, 21, 5, 46, 96]
abbrev dktJ6_hashCode_4_0 : List UInt8 := dkwJ6_hashCode_4_0 ++ dktJ6_hashCode_4_1
theorem dksJ6_hashCode_4_0 : cJ6_hashCode_4.data.toList.drop 0 = dktJ6_hashCode_4_0 := by decide +kernel
theorem dksJ6_hashCode_4_1 : cJ6_hashCode_4.data.toList.drop 24 = dktJ6_hashCode_4_1 := dk_seg dksJ6_hashCode_4_0 24 rfl rfl
theorem dJ6_hashCode_4_0 : decode cJ6_hashCode_4 0 = .ok (.iload_n 2, 1) := dk_28 (dk_at dksJ6_hashCode_4_0 0 rfl rfl)
theorem dJ6_hashCode_4_1 : decode cJ6_hashCode_4 1 = .ok (.iload_n 3, 1) := dk_29 (dk_at dksJ6_hashCode_4_0 1 rfl rfl)
theorem dJ6_hashCode_4_2 : decode cJ6_hashCode_4 2 = .ok (.iadd, 1) := dk_96 (dk_at dksJ6_hashCode_4_0 2 rfl rfl)
theorem dJ6_hashCode_4_3 : decode cJ6_hashCode_4 3 = .ok (.istore 4, 2) := dk_54 4 (dk_at dksJ6_hashCode_4_0 3 rfl rfl)
theorem dJ6_hashCode_4_5 : decode cJ6_hashCode_4 5 = .ok (.iload_n 2, 1) := dk_28 (dk_at dksJ6_hashCode_4_0 5 rfl rfl)
theorem dJ6_hashCode_4_6 : decode cJ6_hashCode_4 6 = .ok (.istore 5, 2) := dk_54 5 (dk_at dksJ6_hashCode_4_0 6 rfl rfl)
theorem dJ6_hashCode_4_8 : decode cJ6_hashCode_4 8 = .ok (.iload 5, 2) := dk_21 5 (dk_at dksJ6_hashCode_4_0 8 rfl rfl)
theorem dJ6_hashCode_4_10 : decode cJ6_hashCode_4 10 = .ok (.iload 4, 2) := dk_21 4 (dk_at dksJ6_hashCode_4_0 10 rfl rfl)
theorem dJ6_hashCode_4_12 : decode cJ6_hashCode_4 12 = .ok (.if_icmp .ge 19, 3) := dk_162 0 19 (dk_at dksJ6_hashCode_4_0 12 rfl rfl)
theorem dJ6_hashCode_4_15 : decode cJ6_hashCode_4 15 = .ok (.bipush 31, 2) := dk_16 31 (dk_at dksJ6_hashCode_4_0 15 rfl rfl)
theorem dJ6_hashCode_4_17 : decode cJ6_hashCode_4 17 = .ok (.iload_n 0, 1) := dk_26 (dk_at dksJ6_hashCode_4_0 17 rfl rfl)
theorem dJ6_hashCode_4_18 : decode cJ6_hashCode_4 18 = .ok (.imul, 1) := dk_104 (dk_at dksJ6_hashCode_4_0 18 rfl rfl)
theorem dJ6_hashCode_4_19 : decode cJ6_hashCode_4 19 = .ok (.aload_n 1, 1) := dk_43 (dk_at dksJ6_hashCode_4_0 19 rfl rfl)
theorem dJ6_hashCode_4_20 : decode cJ6_hashCode_4 20 = .ok (.iload 5, 2) := dk_21 5 (dk_at dksJ6_hashCode_4_0 20 rfl rfl)
theorem dJ6_hashCode_4_22 : decode cJ6_hashCode_4 22 = .ok (.iaload, 1) := dk_46 (dk_at dksJ6_hashCode_4_0 22 rfl rfl)
theorem dJ6_hashCode_4_23 : decode cJ6_hashCode_4 23 = .ok (.iadd, 1) := dk_96 (dk_at dksJ6_hashCode_4_0 23 rfl rfl)
theorem dJ6_hashCode_4_24 : decode cJ6_hashCode_4 24 = .ok (.istore_n 0, 1) := dk_59 (dk_at dksJ6_hashCode_4_1 0 rfl rfl)
theorem dJ6_hashCode_4_25 : decode cJ6_hashCode_4 25 = .ok (.iinc 5 1, 3) := dk_132 5 1 (dk_at dksJ6_hashCode_4_1 1 rfl rfl)
theorem dJ6_hashCode_4_28 : decode cJ6_hashCode_4 28 = .ok (.goto (-20), 3) := dk_167 255 236 (dk_at dksJ6_hashCode_4_1 4 rfl rfl)
theorem dJ6_hashCode_4_31 : decode cJ6_hashCode_4 31 = .ok (.iload_n 0, 1) := dk_26 (dk_at dksJ6_hashCode_4_1 7 rfl rfl)
theorem dJ6_hashCode_4_32 : decode cJ6_hashCode_4 32 = .ok (.ireturn, 1) := dk_172 (dk_at dksJ6_hashCode_4_1 8 rfl rfl)
theorem q73 : (Jvm.Cond.initialized "jdk/internal/util/ArraysSupport") ∈ lw_all := lw_g (lw_at lw_m1 10 rfl) rfl
theorem q245 : (Jvm.Cond.static ({ cls := "jdk/internal/util/ArraysSupport", name := "newLength", desc := "(III)I" } : Jvm.MethodName)) ∈ lw_all := lw_g (lw_at lw_m1 182 rfl) rfl
theorem q246 : (Jvm.Cond.code ({ cls := "jdk/internal/util/ArraysSupport", name := "newLength", desc := "(III)I" } : Jvm.MethodName) prog_60_method_27_code (4 : Nat) (Option.some Jvm.ClassFile.FieldType.int)) ∈ lw_all := lw_g (lw_at lw_m1 183 rfl) rfl
theorem q247 : (Jvm.Cond.methodLink "jdk/internal/util/ArraysSupport" (194 : Nat) ({ cls := "java/lang/Math", name := "max", desc := "(II)I" } : Jvm.MethodName)) ∈ lw_all := lw_g (lw_at lw_m1 184 rfl) rfl
theorem q250 : (Jvm.Cond.constant "jdk/internal/util/ArraysSupport" (200 : Nat) (2147483639 : Int32)) ∈ lw_all := lw_g (lw_at lw_m1 187 rfl) rfl
theorem q251 : (Jvm.Cond.methodLink "jdk/internal/util/ArraysSupport" (201 : Nat) ({ cls := "jdk/internal/util/ArraysSupport", name := "hugeLength", desc := "(II)I" } : Jvm.MethodName)) ∈ lw_all := lw_g (lw_at lw_m1 188 rfl) rfl
theorem q252 : (Jvm.Cond.static ({ cls := "jdk/internal/util/ArraysSupport", name := "hugeLength", desc := "(II)I" } : Jvm.MethodName)) ∈ lw_all := lw_g (lw_at lw_m1 189 rfl) rfl
theorem q253 : (Jvm.Cond.code ({ cls := "jdk/internal/util/ArraysSupport", name := "hugeLength", desc := "(II)I" } : Jvm.MethodName) prog_60_method_28_code (3 : Nat) (Option.some Jvm.ClassFile.FieldType.int)) ∈ lw_all := lw_g (lw_at lw_m1 190 rfl) rfl
theorem q1601 : (Jvm.Cond.static ({ cls := "jdk/internal/util/ArraysSupport", name := "vectorizedHashCode", desc := "(Ljava/lang/Object;IIII)I" } : Jvm.MethodName)) ∈ lw_all := lw_g (lw_at lw_m7 98 rfl) rfl
theorem q1602 : (Jvm.Cond.code ({ cls := "jdk/internal/util/ArraysSupport", name := "vectorizedHashCode", desc := "(Ljava/lang/Object;IIII)I" } : Jvm.MethodName) prog_60_method_4_code (5 : Nat) (Option.some Jvm.ClassFile.FieldType.int)) ∈ lw_all := lw_g (lw_at lw_m7 99 rfl) rfl
theorem q1603 : (Jvm.Cond.classLink "jdk/internal/util/ArraysSupport" (60 : Nat) "[B") ∈ lw_all := lw_g (lw_at lw_m7 100 rfl) rfl
theorem q1604 : (Jvm.Cond.methodLink "jdk/internal/util/ArraysSupport" (62 : Nat) ({ cls := "jdk/internal/util/ArraysSupport", name := "signedHashCode", desc := "(I[BII)I" } : Jvm.MethodName)) ∈ lw_all := lw_g (lw_at lw_m7 101 rfl) rfl
theorem q1605 : (Jvm.Cond.static ({ cls := "jdk/internal/util/ArraysSupport", name := "signedHashCode", desc := "(I[BII)I" } : Jvm.MethodName)) ∈ lw_all := lw_g (lw_at lw_m7 102 rfl) rfl
theorem q1606 : (Jvm.Cond.code ({ cls := "jdk/internal/util/ArraysSupport", name := "signedHashCode", desc := "(I[BII)I" } : Jvm.MethodName) prog_60_method_5_code (6 : Nat) (Option.some Jvm.ClassFile.FieldType.int)) ∈ lw_all := lw_g (lw_at lw_m7 103 rfl) rfl
theorem q1607 : (Jvm.Cond.methodLink "jdk/internal/util/ArraysSupport" (66 : Nat) ({ cls := "jdk/internal/util/ArraysSupport", name := "utf16hashCode", desc := "(I[BII)I" } : Jvm.MethodName)) ∈ lw_all := lw_g (lw_at lw_m7 104 rfl) rfl
theorem q1608 : (Jvm.Cond.static ({ cls := "jdk/internal/util/ArraysSupport", name := "utf16hashCode", desc := "(I[BII)I" } : Jvm.MethodName)) ∈ lw_all := lw_g (lw_at lw_m7 105 rfl) rfl
theorem q1609 : (Jvm.Cond.code ({ cls := "jdk/internal/util/ArraysSupport", name := "utf16hashCode", desc := "(I[BII)I" } : Jvm.MethodName) prog_60_method_10_code (6 : Nat) (Option.some Jvm.ClassFile.FieldType.int)) ∈ lw_all := lw_g (lw_at lw_m7 106 rfl) rfl
theorem q1610 : (Jvm.Cond.fieldLink "jdk/internal/util/ArraysSupport" (106 : Nat) "jdk/internal/util/ArraysSupport" "JLA" "Ljdk/internal/access/JavaLangAccess;") ∈ lw_all := lw_g (lw_at lw_m7 107 rfl) rfl
theorem q1611 : (Jvm.Cond.laysStatic "jdk/internal/util/ArraysSupport" "JLA" "Ljdk/internal/access/JavaLangAccess;") ∈ lw_tbl := lw_at lw_m7 108 rfl
theorem q1612 : (Jvm.Cond.interfaceEntry "jdk/internal/util/ArraysSupport" (110 : Nat)) ∈ lw_tbl := lw_at lw_m7 109 rfl
theorem q1613 : (Jvm.Cond.methodLink "jdk/internal/util/ArraysSupport" (110 : Nat) ({ cls := "jdk/internal/access/JavaLangAccess", name := "getUTF16Char", desc := "([BI)C" } : Jvm.MethodName)) ∈ lw_all := lw_g (lw_at lw_m7 110 rfl) rfl
theorem q1623 : (Jvm.Cond.classLink "jdk/internal/util/ArraysSupport" (69 : Nat) "[C") ∈ lw_all := lw_g (lw_at lw_m7 120 rfl) rfl
theorem q1624 : (Jvm.Cond.methodLink "jdk/internal/util/ArraysSupport" (71 : Nat) ({ cls := "jdk/internal/util/ArraysSupport", name := "hashCode", desc := "(I[CII)I" } : Jvm.MethodName)) ∈ lw_all := lw_g (lw_at lw_m7 121 rfl) rfl
theorem q1625 : (Jvm.Cond.static ({ cls := "jdk/internal/util/ArraysSupport", name := "hashCode", desc := "(I[CII)I" } : Jvm.MethodName)) ∈ lw_all := lw_g (lw_at lw_m7 122 rfl) rfl
theorem q1626 : (Jvm.Cond.code ({ cls := "jdk/internal/util/ArraysSupport", name := "hashCode", desc := "(I[CII)I" } : Jvm.MethodName) prog_60_method_7_code (6 : Nat) (Option.some Jvm.ClassFile.FieldType.int)) ∈ lw_all := lw_g (lw_at lw_m7 123 rfl) rfl
theorem q1627 : (Jvm.Cond.methodLink "jdk/internal/util/ArraysSupport" (75 : Nat) ({ cls := "jdk/internal/util/ArraysSupport", name := "hashCode", desc := "(I[BII)I" } : Jvm.MethodName)) ∈ lw_all := lw_g (lw_at lw_m7 124 rfl) rfl
theorem q1628 : (Jvm.Cond.static ({ cls := "jdk/internal/util/ArraysSupport", name := "hashCode", desc := "(I[BII)I" } : Jvm.MethodName)) ∈ lw_all := lw_g (lw_at lw_m7 125 rfl) rfl
theorem q1629 : (Jvm.Cond.code ({ cls := "jdk/internal/util/ArraysSupport", name := "hashCode", desc := "(I[BII)I" } : Jvm.MethodName) prog_60_method_6_code (6 : Nat) (Option.some Jvm.ClassFile.FieldType.int)) ∈ lw_all := lw_g (lw_at lw_m7 126 rfl) rfl
theorem q1630 : (Jvm.Cond.classLink "jdk/internal/util/ArraysSupport" (77 : Nat) "[S") ∈ lw_all := lw_g (lw_at lw_m7 127 rfl) rfl
theorem q1631 : (Jvm.Cond.methodLink "jdk/internal/util/ArraysSupport" (79 : Nat) ({ cls := "jdk/internal/util/ArraysSupport", name := "hashCode", desc := "(I[SII)I" } : Jvm.MethodName)) ∈ lw_all := lw_g (lw_at lw_m7 128 rfl) rfl
theorem q1632 : (Jvm.Cond.static ({ cls := "jdk/internal/util/ArraysSupport", name := "hashCode", desc := "(I[SII)I" } : Jvm.MethodName)) ∈ lw_all := lw_g (lw_at lw_m7 129 rfl) rfl
theorem q1633 : (Jvm.Cond.code ({ cls := "jdk/internal/util/ArraysSupport", name := "hashCode", desc := "(I[SII)I" } : Jvm.MethodName) prog_60_method_8_code (6 : Nat) (Option.some Jvm.ClassFile.FieldType.int)) ∈ lw_all := lw_g (lw_at lw_m7 130 rfl) rfl
theorem q1634 : (Jvm.Cond.classLink "jdk/internal/util/ArraysSupport" (82 : Nat) "[I") ∈ lw_all := lw_g (lw_at lw_m7 131 rfl) rfl
theorem q1635 : (Jvm.Cond.methodLink "jdk/internal/util/ArraysSupport" (84 : Nat) ({ cls := "jdk/internal/util/ArraysSupport", name := "hashCode", desc := "(I[III)I" } : Jvm.MethodName)) ∈ lw_all := lw_g (lw_at lw_m7 132 rfl) rfl
theorem q1636 : (Jvm.Cond.static ({ cls := "jdk/internal/util/ArraysSupport", name := "hashCode", desc := "(I[III)I" } : Jvm.MethodName)) ∈ lw_all := lw_g (lw_at lw_m7 133 rfl) rfl
theorem q1637 : (Jvm.Cond.code ({ cls := "jdk/internal/util/ArraysSupport", name := "hashCode", desc := "(I[III)I" } : Jvm.MethodName) prog_60_method_9_code (6 : Nat) (Option.some Jvm.ClassFile.FieldType.int)) ∈ lw_all := lw_g (lw_at lw_m7 134 rfl) rfl

/-! java/lang/Math -/
set_option maxRecDepth 100000
def RJ7 : String := "java/lang/Math"
abbrev cJ7_max : ByteArray := prog_23_method_65_code
def yJ7_max : MethodName := ⟨RJ7, "max", "(II)I"⟩
def dkwJ7_max_0 : List UInt8 := [26, 27, 161, 0, 7, 26, 167, 0, 4, 27, 172]
abbrev dktJ7_max_0 : List UInt8 := dkwJ7_max_0 ++ []
theorem dksJ7_max_0 : cJ7_max.data.toList.drop 0 = dktJ7_max_0 := by decide +kernel
theorem dJ7_max_0 : decode cJ7_max 0 = .ok (.iload_n 0, 1) := dk_26 (dk_at dksJ7_max_0 0 rfl rfl)
theorem dJ7_max_1 : decode cJ7_max 1 = .ok (.iload_n 1, 1) := dk_27 (dk_at dksJ7_max_0 1 rfl rfl)
theorem dJ7_max_2 : decode cJ7_max 2 = .ok (.if_icmp .lt 7, 3) := dk_161 0 7 (dk_at dksJ7_max_0 2 rfl rfl)
theorem dJ7_max_5 : decode cJ7_max 5 = .ok (.iload_n 0, 1) := dk_26 (dk_at dksJ7_max_0 5 rfl rfl)
theorem dJ7_max_6 : decode cJ7_max 6 = .ok (.goto 4, 3) := dk_167 0 4 (dk_at dksJ7_max_0 6 rfl rfl)
theorem dJ7_max_9 : decode cJ7_max 9 = .ok (.iload_n 1, 1) := dk_27 (dk_at dksJ7_max_0 9 rfl rfl)
theorem dJ7_max_10 : decode cJ7_max 10 = .ok (.ireturn, 1) := dk_172 (dk_at dksJ7_max_0 10 rfl rfl)
abbrev cJ7_min : ByteArray := prog_23_method_69_code
def yJ7_min : MethodName := ⟨RJ7, "min", "(II)I"⟩
def dkwJ7_min_0 : List UInt8 := [26, 27, 163, 0, 7, 26, 167, 0, 4, 27, 172]
abbrev dktJ7_min_0 : List UInt8 := dkwJ7_min_0 ++ []
theorem dksJ7_min_0 : cJ7_min.data.toList.drop 0 = dktJ7_min_0 := by decide +kernel
theorem dJ7_min_0 : decode cJ7_min 0 = .ok (.iload_n 0, 1) := dk_26 (dk_at dksJ7_min_0 0 rfl rfl)
theorem dJ7_min_1 : decode cJ7_min 1 = .ok (.iload_n 1, 1) := dk_27 (dk_at dksJ7_min_0 1 rfl rfl)
theorem dJ7_min_2 : decode cJ7_min 2 = .ok (.if_icmp .gt 7, 3) := dk_163 0 7 (dk_at dksJ7_min_0 2 rfl rfl)
theorem dJ7_min_5 : decode cJ7_min 5 = .ok (.iload_n 0, 1) := dk_26 (dk_at dksJ7_min_0 5 rfl rfl)
theorem dJ7_min_6 : decode cJ7_min 6 = .ok (.goto 4, 3) := dk_167 0 4 (dk_at dksJ7_min_0 6 rfl rfl)
theorem dJ7_min_9 : decode cJ7_min 9 = .ok (.iload_n 1, 1) := dk_27 (dk_at dksJ7_min_0 9 rfl rfl)
theorem dJ7_min_10 : decode cJ7_min 10 = .ok (.ireturn, 1) := dk_172 (dk_at dksJ7_min_0 10 rfl rfl)
abbrev cJ7_abs : ByteArray := prog_23_method_59_code
def yJ7_abs : MethodName := ⟨RJ7, "abs", "(I)I"⟩
def dkwJ7_abs_0 : List UInt8 := [26, 156, 0, 8, 26, 116, 167, 0, 4, 26, 172]
abbrev dktJ7_abs_0 : List UInt8 := dkwJ7_abs_0 ++ []
theorem dksJ7_abs_0 : cJ7_abs.data.toList.drop 0 = dktJ7_abs_0 := by decide +kernel
theorem dJ7_abs_0 : decode cJ7_abs 0 = .ok (.iload_n 0, 1) := dk_26 (dk_at dksJ7_abs_0 0 rfl rfl)
theorem dJ7_abs_1 : decode cJ7_abs 1 = .ok (.ifCond .ge 8, 3) := dk_156 0 8 (dk_at dksJ7_abs_0 1 rfl rfl)
theorem dJ7_abs_4 : decode cJ7_abs 4 = .ok (.iload_n 0, 1) := dk_26 (dk_at dksJ7_abs_0 4 rfl rfl)
theorem dJ7_abs_5 : decode cJ7_abs 5 = .ok (.ineg, 1) := dk_116 (dk_at dksJ7_abs_0 5 rfl rfl)
theorem dJ7_abs_6 : decode cJ7_abs 6 = .ok (.goto 4, 3) := dk_167 0 4 (dk_at dksJ7_abs_0 6 rfl rfl)
theorem dJ7_abs_9 : decode cJ7_abs 9 = .ok (.iload_n 0, 1) := dk_26 (dk_at dksJ7_abs_0 9 rfl rfl)
theorem dJ7_abs_10 : decode cJ7_abs 10 = .ok (.ireturn, 1) := dk_172 (dk_at dksJ7_abs_0 10 rfl rfl)
theorem q74 : (Jvm.Cond.initialized "java/lang/Math") ∈ lw_all := lw_g (lw_at lw_m1 11 rfl) rfl
theorem q248 : (Jvm.Cond.static ({ cls := "java/lang/Math", name := "max", desc := "(II)I" } : Jvm.MethodName)) ∈ lw_all := lw_g (lw_at lw_m1 185 rfl) rfl
theorem q249 : (Jvm.Cond.code ({ cls := "java/lang/Math", name := "max", desc := "(II)I" } : Jvm.MethodName) prog_23_method_65_code (2 : Nat) (Option.some Jvm.ClassFile.FieldType.int)) ∈ lw_all := lw_g (lw_at lw_m1 186 rfl) rfl
theorem q290 : (Jvm.Cond.static ({ cls := "java/lang/Math", name := "min", desc := "(II)I" } : Jvm.MethodName)) ∈ lw_all := lw_g (lw_at lw_m1 227 rfl) rfl
theorem q291 : (Jvm.Cond.code ({ cls := "java/lang/Math", name := "min", desc := "(II)I" } : Jvm.MethodName) prog_23_method_69_code (2 : Nat) (Option.some Jvm.ClassFile.FieldType.int)) ∈ lw_all := lw_g (lw_at lw_m1 228 rfl) rfl
theorem q1267 : (Jvm.Cond.static ({ cls := "java/lang/Math", name := "abs", desc := "(I)I" } : Jvm.MethodName)) ∈ lw_all := lw_g (lw_at lw_m6 4 rfl) rfl
theorem q1268 : (Jvm.Cond.code ({ cls := "java/lang/Math", name := "abs", desc := "(I)I" } : Jvm.MethodName) prog_23_method_59_code (1 : Nat) (Option.some Jvm.ClassFile.FieldType.int)) ∈ lw_all := lw_g (lw_at lw_m6 5 rfl) rfl

/-! java/util/Arrays -/
set_option maxRecDepth 100000
def RJ8 : String := "java/util/Arrays"
abbrev cJ8_copyOf : ByteArray := prog_44_method_119_code
def yJ8_copyOf : MethodName := ⟨RJ8, "copyOf", "([Ljava/lang/Object;I)[Ljava/lang/Object;"⟩
def dkwJ8_copyOf_0 : List UInt8 := [42, 27, 42, 182, 0, 86, 184, 1, 44, 176]
abbrev dktJ8_copyOf_0 : List UInt8 := dkwJ8_copyOf_0 ++ []
theorem dksJ8_copyOf_0 : cJ8_copyOf.data.toList.drop 0 = dktJ8_copyOf_0 := by decide +kernel
theorem dJ8_copyOf_0 : decode cJ8_copyOf 0 = .ok (.aload_n 0, 1) := dk_42 (dk_at dksJ8_copyOf_0 0 rfl rfl)
theorem dJ8_copyOf_1 : decode cJ8_copyOf 1 = .ok (.iload_n 1, 1) := dk_27 (dk_at dksJ8_copyOf_0 1 rfl rfl)
theorem dJ8_copyOf_2 : decode cJ8_copyOf 2 = .ok (.aload_n 0, 1) := dk_42 (dk_at dksJ8_copyOf_0 2 rfl rfl)
theorem dJ8_copyOf_3 : decode cJ8_copyOf 3 = .ok (.invokevirtual 86, 3) := dk_182 0 86 (dk_at dksJ8_copyOf_0 3 rfl rfl)
theorem dJ8_copyOf_6 : decode cJ8_copyOf 6 = .ok (.invokestatic 300, 3) := dk_184 1 44 (dk_at dksJ8_copyOf_0 6 rfl rfl)
theorem dJ8_copyOf_9 : decode cJ8_copyOf 9 = .ok (.areturn, 1) := dk_176 (dk_at dksJ8_copyOf_0 9 rfl rfl)
abbrev cJ8_copyOf_2 : ByteArray := prog_44_method_120_code
def yJ8_copyOf_2 : MethodName := ⟨RJ8, "copyOf", "([Ljava/lang/Object;ILjava/lang/Class;)[Ljava/lang/Object;"⟩
def dkwJ8_copyOf_2_1 : List UInt8 := [78, 42, 3, 45, 3, 42, 190, 27, 184, 1, 48, 184, 0, 150, 45, 176]
abbrev dktJ8_copyOf_2_1 : List UInt8 := dkwJ8_copyOf_2_1 ++ []
def dkwJ8_copyOf_2_0 : List UInt8 := [44, 18, 110, 166, 0, 10, 27, 189, 0, 2, 167, 0, 14, 44, 182, 0, 90, 27, 184, 0, 95, 192, 0, 110]
abbrev dktJ8_copyOf_2_0 : List UInt8 := dkwJ8_copyOf_2_0 ++ dktJ8_copyOf_2_1
theorem dksJ8_copyOf_2_0 : cJ8_copyOf_2.data.toList.drop 0 = dktJ8_copyOf_2_0 := by decide +kernel
theorem dksJ8_copyOf_2_1 : cJ8_copyOf_2.data.toList.drop 24 = dktJ8_copyOf_2_1 := dk_seg dksJ8_copyOf_2_0 24 rfl rfl
theorem dJ8_copyOf_2_0 : decode cJ8_copyOf_2 0 = .ok (.aload_n 2, 1) := dk_44 (dk_at dksJ8_copyOf_2_0 0 rfl rfl)
theorem dJ8_copyOf_2_1 : decode cJ8_copyOf_2 1 = .ok (.ldc 110, 2) := dk_18 110 (dk_at dksJ8_copyOf_2_0 1 rfl rfl)
theorem dJ8_copyOf_2_3 : decode cJ8_copyOf_2 3 = .ok (.if_acmp .ne 10, 3) := dk_166 0 10 (dk_at dksJ8_copyOf_2_0 3 rfl rfl)
theorem dJ8_copyOf_2_6 : decode cJ8_copyOf_2 6 = .ok (.iload_n 1, 1) := dk_27 (dk_at dksJ8_copyOf_2_0 6 rfl rfl)
theorem dJ8_copyOf_2_7 : decode cJ8_copyOf_2 7 = .ok (.anewarray 2, 3) := dk_189 0 2 (dk_at dksJ8_copyOf_2_0 7 rfl rfl)
theorem dJ8_copyOf_2_10 : decode cJ8_copyOf_2 10 = .ok (.goto 14, 3) := dk_167 0 14 (dk_at dksJ8_copyOf_2_0 10 rfl rfl)
theorem dJ8_copyOf_2_13 : decode cJ8_copyOf_2 13 = .ok (.aload_n 2, 1) := dk_44 (dk_at dksJ8_copyOf_2_0 13 rfl rfl)
theorem dJ8_copyOf_2_14 : decode cJ8_copyOf_2 14 = .ok (.invokevirtual 90, 3) := dk_182 0 90 (dk_at dksJ8_copyOf_2_0 14 rfl rfl)
theorem dJ8_copyOf_2_17 : decode cJ8_copyOf_2 17 = .ok (.iload_n 1, 1) := dk_27 (dk_at dksJ8_copyOf_2_0 17 rfl rfl)
theorem dJ8_copyOf_2_18 : decode cJ8_copyOf_2 18 = .ok (.invokestatic 95, 3) := dk_184 0 95 (dk_at dksJ8_copyOf_2_0 18 rfl rfl)
theorem dJ8_copyOf_2_21 : decode cJ8_copyOf_2 21 = .ok (.checkcast 110, 3) := dk_192 0 110 (dk_at dksJ8_copyOf_2_0 21 rfl rfl)
theorem dJ8_copyOf_2_24 : decode cJ8_copyOf_2 24 = .ok (.astore_n 3, 1) := dk_78 (dk_at dksJ8_copyOf_2_1 0 rfl rfl)
theorem dJ8_copyOf_2_25 : decode cJ8_copyOf_2 25 = .ok (.aload_n 0, 1) := dk_42 (dk_at dksJ8_copyOf_2_1 1 rfl rfl)
theorem dJ8_copyOf_2_26 : decode cJ8_copyOf_2 26 = .ok (.iconst 0, 1) := dk_3 (dk_at dksJ8_copyOf_2_1 2 rfl rfl)
theorem dJ8_copyOf_2_27 : decode cJ8_copyOf_2 27 = .ok (.aload_n 3, 1) := dk_45 (dk_at dksJ8_copyOf_2_1 3 rfl rfl)
theorem dJ8_copyOf_2_28 : decode cJ8_copyOf_2 28 = .ok (.iconst 0, 1) := dk_3 (dk_at dksJ8_copyOf_2_1 4 rfl rfl)
theorem dJ8_copyOf_2_29 : decode cJ8_copyOf_2 29 = .ok (.aload_n 0, 1) := dk_42 (dk_at dksJ8_copyOf_2_1 5 rfl rfl)
theorem dJ8_copyOf_2_30 : decode cJ8_copyOf_2 30 = .ok (.arraylength, 1) := dk_190 (dk_at dksJ8_copyOf_2_1 6 rfl rfl)
theorem dJ8_copyOf_2_31 : decode cJ8_copyOf_2 31 = .ok (.iload_n 1, 1) := dk_27 (dk_at dksJ8_copyOf_2_1 7 rfl rfl)
theorem dJ8_copyOf_2_32 : decode cJ8_copyOf_2 32 = .ok (.invokestatic 304, 3) := dk_184 1 48 (dk_at dksJ8_copyOf_2_1 8 rfl rfl)
theorem dJ8_copyOf_2_35 : decode cJ8_copyOf_2 35 = .ok (.invokestatic 150, 3) := dk_184 0 150 (dk_at dksJ8_copyOf_2_1 11 rfl rfl)
theorem dJ8_copyOf_2_38 : decode cJ8_copyOf_2 38 = .ok (.aload_n 3, 1) := dk_45 (dk_at dksJ8_copyOf_2_1 14 rfl rfl)
theorem dJ8_copyOf_2_39 : decode cJ8_copyOf_2 39 = .ok (.areturn, 1) := dk_176 (dk_at dksJ8_copyOf_2_1 15 rfl rfl)
abbrev cJ8_copyOf_3 : ByteArray := prog_44_method_124_code
def yJ8_copyOf_3 : MethodName := ⟨RJ8, "copyOf", "([JI)[J"⟩
def dkwJ8_copyOf_3_1 : List UInt8 := [27, 184, 1, 48, 184, 0, 150, 44, 176]
abbrev dktJ8_copyOf_3_1 : List UInt8 := dkwJ8_copyOf_3_1 ++ []
def dkwJ8_copyOf_3_0 : List UInt8 := [27, 42, 190, 160, 0, 11, 42, 182, 1, 63, 192, 1, 64, 176, 27, 188, 11, 77, 42, 3, 44, 3, 42, 190]
abbrev dktJ8_copyOf_3_0 : List UInt8 := dkwJ8_copyOf_3_0 ++ dktJ8_copyOf_3_1
theorem dksJ8_copyOf_3_0 : cJ8_copyOf_3.data.toList.drop 0 = dktJ8_copyOf_3_0 := by decide +kernel
theorem dksJ8_copyOf_3_1 : cJ8_copyOf_3.data.toList.drop 24 = dktJ8_copyOf_3_1 := dk_seg dksJ8_copyOf_3_0 24 rfl rfl
theorem dJ8_copyOf_3_0 : decode cJ8_copyOf_3 0 = .ok (.iload_n 1, 1) := dk_27 (dk_at dksJ8_copyOf_3_0 0 rfl rfl)
theorem dJ8_copyOf_3_1 : decode cJ8_copyOf_3 1 = .ok (.aload_n 0, 1) := dk_42 (dk_at dksJ8_copyOf_3_0 1 rfl rfl)
theorem dJ8_copyOf_3_2 : decode cJ8_copyOf_3 2 = .ok (.arraylength, 1) := dk_190 (dk_at dksJ8_copyOf_3_0 2 rfl rfl)
theorem dJ8_copyOf_3_3 : decode cJ8_copyOf_3 3 = .ok (.if_icmp .ne 11, 3) := dk_160 0 11 (dk_at dksJ8_copyOf_3_0 3 rfl rfl)
theorem dJ8_copyOf_3_6 : decode cJ8_copyOf_3 6 = .ok (.aload_n 0, 1) := dk_42 (dk_at dksJ8_copyOf_3_0 6 rfl rfl)
theorem dJ8_copyOf_3_7 : decode cJ8_copyOf_3 7 = .ok (.invokevirtual 319, 3) := dk_182 1 63 (dk_at dksJ8_copyOf_3_0 7 rfl rfl)
theorem dJ8_copyOf_3_10 : decode cJ8_copyOf_3 10 = .ok (.checkcast 320, 3) := dk_192 1 64 (dk_at dksJ8_copyOf_3_0 10 rfl rfl)
theorem dJ8_copyOf_3_13 : decode cJ8_copyOf_3 13 = .ok (.areturn, 1) := dk_176 (dk_at dksJ8_copyOf_3_0 13 rfl rfl)
theorem dJ8_copyOf_3_14 : decode cJ8_copyOf_3 14 = .ok (.iload_n 1, 1) := dk_27 (dk_at dksJ8_copyOf_3_0 14 rfl rfl)
theorem dJ8_copyOf_3_15 : decode cJ8_copyOf_3 15 = .ok (.newarray .long, 2) := dk_188_11 (dk_at dksJ8_copyOf_3_0 15 rfl rfl)
theorem dJ8_copyOf_3_17 : decode cJ8_copyOf_3 17 = .ok (.astore_n 2, 1) := dk_77 (dk_at dksJ8_copyOf_3_0 17 rfl rfl)
theorem dJ8_copyOf_3_18 : decode cJ8_copyOf_3 18 = .ok (.aload_n 0, 1) := dk_42 (dk_at dksJ8_copyOf_3_0 18 rfl rfl)
theorem dJ8_copyOf_3_19 : decode cJ8_copyOf_3 19 = .ok (.iconst 0, 1) := dk_3 (dk_at dksJ8_copyOf_3_0 19 rfl rfl)
theorem dJ8_copyOf_3_20 : decode cJ8_copyOf_3 20 = .ok (.aload_n 2, 1) := dk_44 (dk_at dksJ8_copyOf_3_0 20 rfl rfl)
theorem dJ8_copyOf_3_21 : decode cJ8_copyOf_3 21 = .ok (.iconst 0, 1) := dk_3 (dk_at dksJ8_copyOf_3_0 21 rfl rfl)
theorem dJ8_copyOf_3_22 : decode cJ8_copyOf_3 22 = .ok (.aload_n 0, 1) := dk_42 (dk_at dksJ8_copyOf_3_0 22 rfl rfl)
theorem dJ8_copyOf_3_23 : decode cJ8_copyOf_3 23 = .ok (.arraylength, 1) := dk_190 (dk_at dksJ8_copyOf_3_0 23 rfl rfl)
theorem dJ8_copyOf_3_24 : decode cJ8_copyOf_3 24 = .ok (.iload_n 1, 1) := dk_27 (dk_at dksJ8_copyOf_3_1 0 rfl rfl)
theorem dJ8_copyOf_3_25 : decode cJ8_copyOf_3 25 = .ok (.invokestatic 304, 3) := dk_184 1 48 (dk_at dksJ8_copyOf_3_1 1 rfl rfl)
theorem dJ8_copyOf_3_28 : decode cJ8_copyOf_3 28 = .ok (.invokestatic 150, 3) := dk_184 0 150 (dk_at dksJ8_copyOf_3_1 4 rfl rfl)
theorem dJ8_copyOf_3_31 : decode cJ8_copyOf_3 31 = .ok (.aload_n 2, 1) := dk_44 (dk_at dksJ8_copyOf_3_1 7 rfl rfl)
theorem dJ8_copyOf_3_32 : decode cJ8_copyOf_3 32 = .ok (.areturn, 1) := dk_176 (dk_at dksJ8_copyOf_3_1 8 rfl rfl)
abbrev cJ8_copyOf_4 : ByteArray := prog_44_method_121_code
def yJ8_copyOf_4 : MethodName := ⟨RJ8, "copyOf", "([BI)[B"⟩
def dkwJ8_copyOf_4_1 : List UInt8 := [27, 184, 1, 48, 184, 0, 150, 44, 176]
abbrev dktJ8_copyOf_4_1 : List UInt8 := dkwJ8_copyOf_4_1 ++ []
def dkwJ8_copyOf_4_0 : List UInt8 := [27, 42, 190, 160, 0, 11, 42, 182, 1, 54, 192, 1, 55, 176, 27, 188, 8, 77, 42, 3, 44, 3, 42, 190]
abbrev dktJ8_copyOf_4_0 : List UInt8 := dkwJ8_copyOf_4_0 ++ dktJ8_copyOf_4_1
theorem dksJ8_copyOf_4_0 : cJ8_copyOf_4.data.toList.drop 0 = dktJ8_copyOf_4_0 := by decide +kernel
theorem dksJ8_copyOf_4_1 : cJ8_copyOf_4.data.toList.drop 24 = dktJ8_copyOf_4_1 := dk_seg dksJ8_copyOf_4_0 24 rfl rfl
theorem dJ8_copyOf_4_0 : decode cJ8_copyOf_4 0 = .ok (.iload_n 1, 1) := dk_27 (dk_at dksJ8_copyOf_4_0 0 rfl rfl)
theorem dJ8_copyOf_4_1 : decode cJ8_copyOf_4 1 = .ok (.aload_n 0, 1) := dk_42 (dk_at dksJ8_copyOf_4_0 1 rfl rfl)
theorem dJ8_copyOf_4_2 : decode cJ8_copyOf_4 2 = .ok (.arraylength, 1) := dk_190 (dk_at dksJ8_copyOf_4_0 2 rfl rfl)
theorem dJ8_copyOf_4_3 : decode cJ8_copyOf_4 3 = .ok (.if_icmp .ne 11, 3) := dk_160 0 11 (dk_at dksJ8_copyOf_4_0 3 rfl rfl)
theorem dJ8_copyOf_4_6 : decode cJ8_copyOf_4 6 = .ok (.aload_n 0, 1) := dk_42 (dk_at dksJ8_copyOf_4_0 6 rfl rfl)
theorem dJ8_copyOf_4_7 : decode cJ8_copyOf_4 7 = .ok (.invokevirtual 310, 3) := dk_182 1 54 (dk_at dksJ8_copyOf_4_0 7 rfl rfl)
theorem dJ8_copyOf_4_10 : decode cJ8_copyOf_4 10 = .ok (.checkcast 311, 3) := dk_192 1 55 (dk_at dksJ8_copyOf_4_0 10 rfl rfl)
theorem dJ8_copyOf_4_13 : decode cJ8_copyOf_4 13 = .ok (.areturn, 1) := dk_176 (dk_at dksJ8_copyOf_4_0 13 rfl rfl)
theorem dJ8_copyOf_4_14 : decode cJ8_copyOf_4 14 = .ok (.iload_n 1, 1) := dk_27 (dk_at dksJ8_copyOf_4_0 14 rfl rfl)
theorem dJ8_copyOf_4_15 : decode cJ8_copyOf_4 15 = .ok (.newarray .byte, 2) := dk_188_8 (dk_at dksJ8_copyOf_4_0 15 rfl rfl)
theorem dJ8_copyOf_4_17 : decode cJ8_copyOf_4 17 = .ok (.astore_n 2, 1) := dk_77 (dk_at dksJ8_copyOf_4_0 17 rfl rfl)
theorem dJ8_copyOf_4_18 : decode cJ8_copyOf_4 18 = .ok (.aload_n 0, 1) := dk_42 (dk_at dksJ8_copyOf_4_0 18 rfl rfl)
theorem dJ8_copyOf_4_19 : decode cJ8_copyOf_4 19 = .ok (.iconst 0, 1) := dk_3 (dk_at dksJ8_copyOf_4_0 19 rfl rfl)
theorem dJ8_copyOf_4_20 : decode cJ8_copyOf_4 20 = .ok (.aload_n 2, 1) := dk_44 (dk_at dksJ8_copyOf_4_0 20 rfl rfl)
theorem dJ8_copyOf_4_21 : decode cJ8_copyOf_4 21 = .ok (.iconst 0, 1) := dk_3 (dk_at dksJ8_copyOf_4_0 21 rfl rfl)
theorem dJ8_copyOf_4_22 : decode cJ8_copyOf_4 22 = .ok (.aload_n 0, 1) := dk_42 (dk_at dksJ8_copyOf_4_0 22 rfl rfl)
theorem dJ8_copyOf_4_23 : decode cJ8_copyOf_4 23 = .ok (.arraylength, 1) := dk_190 (dk_at dksJ8_copyOf_4_0 23 rfl rfl)
theorem dJ8_copyOf_4_24 : decode cJ8_copyOf_4 24 = .ok (.iload_n 1, 1) := dk_27 (dk_at dksJ8_copyOf_4_1 0 rfl rfl)
theorem dJ8_copyOf_4_25 : decode cJ8_copyOf_4 25 = .ok (.invokestatic 304, 3) := dk_184 1 48 (dk_at dksJ8_copyOf_4_1 1 rfl rfl)
theorem dJ8_copyOf_4_28 : decode cJ8_copyOf_4 28 = .ok (.invokestatic 150, 3) := dk_184 0 150 (dk_at dksJ8_copyOf_4_1 4 rfl rfl)
theorem dJ8_copyOf_4_31 : decode cJ8_copyOf_4 31 = .ok (.aload_n 2, 1) := dk_44 (dk_at dksJ8_copyOf_4_1 7 rfl rfl)
theorem dJ8_copyOf_4_32 : decode cJ8_copyOf_4 32 = .ok (.areturn, 1) := dk_176 (dk_at dksJ8_copyOf_4_1 8 rfl rfl)
abbrev cJ8_copyOfRange : ByteArray := prog_44_method_132_code
def yJ8_copyOfRange : MethodName := ⟨RJ8, "copyOfRange", "([BII)[B"⟩
def dkwJ8_copyOfRange_1 : List UInt8 := [176]
abbrev dktJ8_copyOfRange_1 : List UInt8 := dkwJ8_copyOfRange_1 ++ []
def dkwJ8_copyOfRange_0 : List UInt8 := [27, 154, 0, 9, 28, 42, 190, 159, 0, 10, 42, 27, 28, 184, 1, 83, 176, 42, 182, 1, 54, 192, 1, 55]
abbrev dktJ8_copyOfRange_0 : List UInt8 := dkwJ8_copyOfRange_0 ++ dktJ8_copyOfRange_1
theorem dksJ8_copyOfRange_0 : cJ8_copyOfRange.data.toList.drop 0 = dktJ8_copyOfRange_0 := by decide +kernel
theorem dksJ8_copyOfRange_1 : cJ8_copyOfRange.data.toList.drop 24 = dktJ8_copyOfRange_1 := dk_seg dksJ8_copyOfRange_0 24 rfl rfl
theorem dJ8_copyOfRange_0 : decode cJ8_copyOfRange 0 = .ok (.iload_n 1, 1) := dk_27 (dk_at dksJ8_copyOfRange_0 0 rfl rfl)
theorem dJ8_copyOfRange_1 : decode cJ8_copyOfRange 1 = .ok (.ifCond .ne 9, 3) := dk_154 0 9 (dk_at dksJ8_copyOfRange_0 1 rfl rfl)
theorem dJ8_copyOfRange_4 : decode cJ8_copyOfRange 4 = .ok (.iload_n 2, 1) := dk_28 (dk_at dksJ8_copyOfRange_0 4 rfl rfl)
theorem dJ8_copyOfRange_5 : decode cJ8_copyOfRange 5 = .ok (.aload_n 0, 1) := dk_42 (dk_at dksJ8_copyOfRange_0 5 rfl rfl)
theorem dJ8_copyOfRange_6 : decode cJ8_copyOfRange 6 = .ok (.arraylength, 1) := dk_190 (dk_at dksJ8_copyOfRange_0 6 rfl rfl)
theorem dJ8_copyOfRange_7 : decode cJ8_copyOfRange 7 = .ok (.if_icmp .eq 10, 3) := dk_159 0 10 (dk_at dksJ8_copyOfRange_0 7 rfl rfl)
theorem dJ8_copyOfRange_10 : decode cJ8_copyOfRange 10 = .ok (.aload_n 0, 1) := dk_42 (dk_at dksJ8_copyOfRange_0 10 rfl rfl)
theorem dJ8_copyOfRange_11 : decode cJ8_copyOfRange 11 = .ok (.iload_n 1, 1) := dk_27 (dk_at dksJ8_copyOfRange_0 11 rfl rfl)
theorem dJ8_copyOfRange_12 : decode cJ8_copyOfRange 12 = .ok (.iload_n 2, 1) := dk_28 (dk_at dksJ8_copyOfRange_0 12 rfl rfl)
theorem dJ8_copyOfRange_13 : decode cJ8_copyOfRange 13 = .ok (.invokestatic 339, 3) := dk_184 1 83 (dk_at dksJ8_copyOfRange_0 13 rfl rfl)
theorem dJ8_copyOfRange_16 : decode cJ8_copyOfRange 16 = .ok (.areturn, 1) := dk_176 (dk_at dksJ8_copyOfRange_0 16 rfl rfl)
theorem dJ8_copyOfRange_17 : decode cJ8_copyOfRange 17 = .ok (.aload_n 0, 1) := dk_42 (dk_at dksJ8_copyOfRange_0 17 rfl rfl)
theorem dJ8_copyOfRange_18 : decode cJ8_copyOfRange 18 = .ok (.invokevirtual 310, 3) := dk_182 1 54 (dk_at dksJ8_copyOfRange_0 18 rfl rfl)
theorem dJ8_copyOfRange_21 : decode cJ8_copyOfRange 21 = .ok (.checkcast 311, 3) := dk_192 1 55 (dk_at dksJ8_copyOfRange_0 21 rfl rfl)
theorem dJ8_copyOfRange_24 : decode cJ8_copyOfRange 24 = .ok (.areturn, 1) := dk_176 (dk_at dksJ8_copyOfRange_1 0 rfl rfl)
abbrev cJ8_copyOfRangeByte : ByteArray := prog_44_method_133_code
def yJ8_copyOfRangeByte : MethodName := ⟨RJ8, "copyOfRangeByte", "([BII)[B"⟩
def dkwJ8_copyOfRangeByte_1 : List UInt8 := [184, 1, 48, 184, 0, 150, 25, 4, 176]
abbrev dktJ8_copyOfRangeByte_1 : List UInt8 := dkwJ8_copyOfRangeByte_1 ++ []
def dkwJ8_copyOfRangeByte_0 : List UInt8 := [27, 28, 184, 1, 87, 28, 27, 100, 62, 29, 188, 8, 58, 4, 42, 27, 25, 4, 3, 42, 190, 27, 100, 29]
abbrev dktJ8_copyOfRangeByte_0 : List UInt8 := dkwJ8_copyOfRangeByte_0 ++ dktJ8_copyOfRangeByte_1
theorem dksJ8_copyOfRangeByte_0 : cJ8_copyOfRangeByte.data.toList.drop 0 = dktJ8_copyOfRangeByte_0 := by decide +kernel
theorem dksJ8_copyOfRangeByte_1 : cJ8_copyOfRangeByte.data.toList.drop 24 = dktJ8_copyOfRangeByte_1 := dk_seg dksJ8_copyOfRangeByte_0 24 rfl rfl
theorem dJ8_copyOfRangeByte_0 : decode cJ8_copyOfRangeByte 0 = .ok (.iload_n 1, 1) := dk_27 (dk_at dksJ8_copyOfRangeByte_0 0 rfl rfl)
theorem dJ8_copyOfRangeByte_1 : decode cJ8_copyOfRangeByte 1 = .ok (.iload_n 2, 1) := dk_28 (dk_at dksJ8_copyOfRangeByte_0 1 rfl rfl)
theorem dJ8_copyOfRangeByte_2 : decode cJ8_copyOfRangeByte 2 = .ok (.invokestatic 343, 3) := dk_184 1 87 (dk_at dksJ8_copyOfRangeByte_0 2 rfl rfl)
theorem dJ8_copyOfRangeByte_5 : decode cJ8_copyOfRangeByte 5 = .ok (.iload_n 2, 1) := dk_28 (dk_at dksJ8_copyOfRangeByte_0 5 rfl rfl)
theorem dJ8_copyOfRangeByte_6 : decode cJ8_copyOfRangeByte 6 = .ok (.iload_n 1, 1) := dk_27 (dk_at dksJ8_copyOfRangeByte_0 6 rfl rfl)
theorem dJ8_copyOfRangeByte_7 : decode cJ8_copyOfRangeByte 7 = .ok (.isub, 1) := dk_100 (dk_at dksJ8_copyOfRangeByte_0 7 rfl rfl)
theorem dJ8_copyOfRangeByte_8 : decode cJ8_copyOfRangeByte 8 = .ok (.istore_n 3, 1) := dk_62 (dk_at dksJ8_copyOfRangeByte_0 8 rfl rfl)
theorem dJ8_copyOfRangeByte_9 : decode cJ8_copyOfRangeByte 9 = .ok (.iload_n 3, 1) := dk_29 (dk_at dksJ8_copyOfRangeByte_0 9 rfl rfl)
theorem dJ8_copyOfRangeByte_10 : decode cJ8_copyOfRangeByte 10 = .ok (.newarray .byte, 2) := dk_188_8 (dk_at dksJ8_copyOfRangeByte_0 10 rfl rfl)
theorem dJ8_copyOfRangeByte_12 : decode cJ8_copyOfRangeByte 12 = .ok (.astore 4, 2) := dk_58 4 (dk_at dksJ8_copyOfRangeByte_0 12 rfl rfl)
theorem dJ8_copyOfRangeByte_14 : decode cJ8_copyOfRangeByte 14 = .ok (.aload_n 0, 1) := dk_42 (dk_at dksJ8_copyOfRangeByte_0 14 rfl rfl)
theorem dJ8_copyOfRangeByte_15 : decode cJ8_copyOfRangeByte 15 = .ok (.iload_n 1, 1) := dk_27 (dk_at dksJ8_copyOfRangeByte_0 15 rfl rfl)
theorem dJ8_copyOfRangeByte_16 : decode cJ8_copyOfRangeByte 16 = .ok (.aload 4, 2) := dk_25 4 (dk_at dksJ8_copyOfRangeByte_0 16 rfl rfl)
theorem dJ8_copyOfRangeByte_18 : decode cJ8_copyOfRangeByte 18 = .ok (.iconst 0, 1) := dk_3 (dk_at dksJ8_copyOfRangeByte_0 18 rfl rfl)
theorem dJ8_copyOfRangeByte_19 : decode cJ8_copyOfRangeByte 19 = .ok (.aload_n 0, 1) := dk_42 (dk_at dksJ8_copyOfRangeByte_0 19 rfl rfl)
theorem dJ8_copyOfRangeByte_20 : decode cJ8_copyOfRangeByte 20 = .ok (.arraylength, 1) := dk_190 (dk_at dksJ8_copyOfRangeByte_0 20 rfl rfl)
theorem dJ8_copyOfRangeByte_21 : decode cJ8_copyOfRangeByte 21 = .ok (.iload_n 1, 1) := dk_27 (dk_at dksJ8_copyOfRangeByte_0 21 rfl rfl)
theorem dJ8_copyOfRangeByte_22 : decode cJ8_copyOfRangeByte 22 = .ok (.isub, 1) := dk_100 (dk_at dksJ8_copyOfRangeByte_0 22 rfl rfl)
theorem dJ8_copyOfRangeByte_23 : decode cJ8_copyOfRangeByte 23 = .ok (.iload_n 3, 1) := dk_29 (dk_at dksJ8_copyOfRangeByte_0 23 rfl rfl)
theorem dJ8_copyOfRangeByte_24 : decode cJ8_copyOfRangeByte 24 = .ok (.invokestatic 304, 3) := dk_184 1 48 (dk_at dksJ8_copyOfRangeByte_1 0 rfl rfl)
theorem dJ8_copyOfRangeByte_27 : decode cJ8_copyOfRangeByte 27 = .ok (.invokestatic 150, 3) := dk_184 0 150 (dk_at dksJ8_copyOfRangeByte_1 3 rfl rfl)
theorem dJ8_copyOfRangeByte_30 : decode cJ8_copyOfRangeByte 30 = .ok (.aload 4, 2) := dk_25 4 (dk_at dksJ8_copyOfRangeByte_1 6 rfl rfl)
theorem dJ8_copyOfRangeByte_32 : decode cJ8_copyOfRangeByte 32 = .ok (.areturn, 1) := dk_176 (dk_at dksJ8_copyOfRangeByte_1 8 rfl rfl)
abbrev cJ8_checkLength : ByteArray := prog_44_method_131_code
def yJ8_checkLength : MethodName := ⟨RJ8, "checkLength", "(II)V"⟩
def dkwJ8_checkLength_1 : List UInt8 := [182, 0, 50, 27, 182, 0, 54, 182, 0, 61, 183, 0, 65, 191, 177]
abbrev dktJ8_checkLength_1 : List UInt8 := dkwJ8_checkLength_1 ++ []
def dkwJ8_checkLength_0 : List UInt8 := [27, 26, 162, 0, 35, 187, 0, 43, 89, 187, 0, 45, 89, 183, 0, 47, 26, 182, 0, 54, 19, 1, 81]
abbrev dktJ8_checkLength_0 : List UInt8 := dkwJ8_checkLength_0 ++ dktJ8_checkLength_1
theorem dksJ8_checkLength_0 : cJ8_checkLength.data.toList.drop 0 = dktJ8_checkLength_0 := by decide +kernel
theorem dksJ8_checkLength_1 : cJ8_checkLength.data.toList.drop 23 = dktJ8_checkLength_1 := dk_seg dksJ8_checkLength_0 23 rfl rfl
theorem dJ8_checkLength_0 : decode cJ8_checkLength 0 = .ok (.iload_n 1, 1) := dk_27 (dk_at dksJ8_checkLength_0 0 rfl rfl)
theorem dJ8_checkLength_1 : decode cJ8_checkLength 1 = .ok (.iload_n 0, 1) := dk_26 (dk_at dksJ8_checkLength_0 1 rfl rfl)
theorem dJ8_checkLength_2 : decode cJ8_checkLength 2 = .ok (.if_icmp .ge 35, 3) := dk_162 0 35 (dk_at dksJ8_checkLength_0 2 rfl rfl)
theorem dJ8_checkLength_5 : decode cJ8_checkLength 5 = .ok (.new 43, 3) := dk_187 0 43 (dk_at dksJ8_checkLength_0 5 rfl rfl)
theorem dJ8_checkLength_8 : decode cJ8_checkLength 8 = .ok (.dup, 1) := dk_89 (dk_at dksJ8_checkLength_0 8 rfl rfl)
theorem dJ8_checkLength_9 : decode cJ8_checkLength 9 = .ok (.new 45, 3) := dk_187 0 45 (dk_at dksJ8_checkLength_0 9 rfl rfl)
theorem dJ8_checkLength_12 : decode cJ8_checkLength 12 = .ok (.dup, 1) := dk_89 (dk_at dksJ8_checkLength_0 12 rfl rfl)
theorem dJ8_checkLength_13 : decode cJ8_checkLength 13 = .ok (.invokespecial 47, 3) := dk_183 0 47 (dk_at dksJ8_checkLength_0 13 rfl rfl)
theorem dJ8_checkLength_16 : decode cJ8_checkLength 16 = .ok (.iload_n 0, 1) := dk_26 (dk_at dksJ8_checkLength_0 16 rfl rfl)
theorem dJ8_checkLength_17 : decode cJ8_checkLength 17 = .ok (.invokevirtual 54, 3) := dk_182 0 54 (dk_at dksJ8_checkLength_0 17 rfl rfl)
theorem dJ8_checkLength_20 : decode cJ8_checkLength 20 = .ok (.ldc_w 337, 3) := dk_19 1 81 (dk_at dksJ8_checkLength_0 20 rfl rfl)
theorem dJ8_checkLength_23 : decode cJ8_checkLength 23 = .ok (.invokevirtual 50, 3) := dk_182 0 50 (dk_at dksJ8_checkLength_1 0 rfl rfl)
theorem dJ8_checkLength_26 : decode cJ8_checkLength 26 = .ok (.iload_n 1, 1) := dk_27 (dk_at dksJ8_checkLength_1 3 rfl rfl)
theorem dJ8_checkLength_27 : decode cJ8_checkLength 27 = .ok (.invokevirtual 54, 3) := dk_182 0 54 (dk_at dksJ8_checkLength_1 4 rfl rfl)
theorem dJ8_checkLength_30 : decode cJ8_checkLength 30 = .ok (.invokevirtual 61, 3) := dk_182 0 61 (dk_at dksJ8_checkLength_1 7 rfl rfl)
theorem dJ8_checkLength_33 : decode cJ8_checkLength 33 = .ok (.invokespecial 65, 3) := dk_183 0 65 (dk_at dksJ8_checkLength_1 10 rfl rfl)
theorem dJ8_checkLength_36 : decode cJ8_checkLength 36 = .ok (.athrow, 1) := dk_191 (dk_at dksJ8_checkLength_1 13 rfl rfl)
theorem dJ8_checkLength_37 : decode cJ8_checkLength 37 = .ok (.return_, 1) := dk_177 (dk_at dksJ8_checkLength_1 14 rfl rfl)
abbrev cJ8_fill : ByteArray := prog_44_method_110_code
def yJ8_fill : MethodName := ⟨RJ8, "fill", "([BIIB)V"⟩
def dkwJ8_fill_1 : List UInt8 := [167, 255, 242, 177]
abbrev dktJ8_fill_1 : List UInt8 := dkwJ8_fill_1 ++ []
def dkwJ8_fill_0 : List UInt8 := [42, 190, 27, 28, 184, 0, 13, 27, 54, 4, 21, 4, 28, 162, 0, 14, 42, 21, 4, 29, 84, 132, 4, 1]
abbrev dktJ8_fill_0 : List UInt8 := dkwJ8_fill_0 ++ dktJ8_fill_1
theorem dksJ8_fill_0 : cJ8_fill.data.toList.drop 0 = dktJ8_fill_0 := by decide +kernel
theorem dksJ8_fill_1 : cJ8_fill.data.toList.drop 24 = dktJ8_fill_1 := dk_seg dksJ8_fill_0 24 rfl rfl
theorem dJ8_fill_0 : decode cJ8_fill 0 = .ok (.aload_n 0, 1) := dk_42 (dk_at dksJ8_fill_0 0 rfl rfl)
theorem dJ8_fill_1 : decode cJ8_fill 1 = .ok (.arraylength, 1) := dk_190 (dk_at dksJ8_fill_0 1 rfl rfl)
theorem dJ8_fill_2 : decode cJ8_fill 2 = .ok (.iload_n 1, 1) := dk_27 (dk_at dksJ8_fill_0 2 rfl rfl)
theorem dJ8_fill_3 : decode cJ8_fill 3 = .ok (.iload_n 2, 1) := dk_28 (dk_at dksJ8_fill_0 3 rfl rfl)
theorem dJ8_fill_4 : decode cJ8_fill 4 = .ok (.invokestatic 13, 3) := dk_184 0 13 (dk_at dksJ8_fill_0 4 rfl rfl)
theorem dJ8_fill_7 : decode cJ8_fill 7 = .ok (.iload_n 1, 1) := dk_27 (dk_at dksJ8_fill_0 7 rfl rfl)
theorem dJ8_fill_8 : decode cJ8_fill 8 = .ok (.istore 4, 2) := dk_54 4 (dk_at dksJ8_fill_0 8 rfl rfl)
theorem dJ8_fill_10 : decode cJ8_fill 10 = .ok (.iload 4, 2) := dk_21 4 (dk_at dksJ8_fill_0 10 rfl rfl)
theorem dJ8_fill_12 : decode cJ8_fill 12 = .ok (.iload_n 2, 1) := dk_28 (dk_at dksJ8_fill_0 12 rfl rfl)
theorem dJ8_fill_13 : decode cJ8_fill 13 = .ok (.if_icmp .ge 14, 3) := dk_162 0 14 (dk_at dksJ8_fill_0 13 rfl rfl)
theorem dJ8_fill_16 : decode cJ8_fill 16 = .ok (.aload_n 0, 1) := dk_42 (dk_at dksJ8_fill_0 16 rfl rfl)
theorem dJ8_fill_17 : decode cJ8_fill 17 = .ok (.iload 4, 2) := dk_21 4 (dk_at dksJ8_fill_0 17 rfl rfl)
theorem dJ8_fill_19 : decode cJ8_fill 19 = .ok (.iload_n 3, 1) := dk_29 (dk_at dksJ8_fill_0 19 rfl rfl)
theorem dJ8_fill_20 : decode cJ8_fill 20 = .ok (.bastore, 1) := dk_84 (dk_at dksJ8_fill_0 20 rfl rfl)
theorem dJ8_fill_21 : decode cJ8_fill 21 = .ok (.iinc 4 1, 3) := dk_132 4 1 (dk_at dksJ8_fill_0 21 rfl rfl)
theorem dJ8_fill_24 : decode cJ8_fill 24 = .ok (.goto (-14), 3) := dk_167 255 242 (dk_at dksJ8_fill_1 0 rfl rfl)
theorem dJ8_fill_27 : decode cJ8_fill 27 = .ok (.return_, 1) := dk_177 (dk_at dksJ8_fill_1 3 rfl rfl)
abbrev cJ8_rangeCheck : ByteArray := prog_44_method_30_code
def yJ8_rangeCheck : MethodName := ⟨RJ8, "rangeCheck", "(III)V"⟩
def dkwJ8_rangeCheck_3 : List UInt8 := [183, 0, 70, 191, 177]
abbrev dktJ8_rangeCheck_3 : List UInt8 := dkwJ8_rangeCheck_3 ++ []
def dkwJ8_rangeCheck_2 : List UInt8 := [27, 156, 0, 12, 187, 0, 68, 89, 27, 183, 0, 70, 191, 28, 26, 164, 0, 12, 187, 0, 68, 89, 28]
abbrev dktJ8_rangeCheck_2 : List UInt8 := dkwJ8_rangeCheck_2 ++ dktJ8_rangeCheck_3
def dkwJ8_rangeCheck_1 : List UInt8 := [182, 0, 54, 18, 57, 182, 0, 50, 28, 182, 0, 54, 18, 59, 182, 0, 50, 182, 0, 61, 183, 0, 65, 191]
abbrev dktJ8_rangeCheck_1 : List UInt8 := dkwJ8_rangeCheck_1 ++ dktJ8_rangeCheck_2
def dkwJ8_rangeCheck_0 : List UInt8 := [27, 28, 164, 0, 44, 187, 0, 43, 89, 187, 0, 45, 89, 183, 0, 47, 18, 48, 182, 0, 50, 27]
abbrev dktJ8_rangeCheck_0 : List UInt8 := dkwJ8_rangeCheck_0 ++ dktJ8_rangeCheck_1
theorem dksJ8_rangeCheck_0 : cJ8_rangeCheck.data.toList.drop 0 = dktJ8_rangeCheck_0 := by decide +kernel
theorem dksJ8_rangeCheck_1 : cJ8_rangeCheck.data.toList.drop 22 = dktJ8_rangeCheck_1 := dk_seg dksJ8_rangeCheck_0 22 rfl rfl
theorem dksJ8_rangeCheck_2 : cJ8_rangeCheck.data.toList.drop 46 = dktJ8_rangeCheck_2 := dk_seg dksJ8_rangeCheck_1 24 rfl rfl
theorem dksJ8_rangeCheck_3 : cJ8_rangeCheck.data.toList.drop 69 = dktJ8_rangeCheck_3 := dk_seg dksJ8_rangeCheck_2 23 rfl rfl
theorem dJ8_rangeCheck_0 : decode cJ8_rangeCheck 0 = .ok (.iload_n 1, 1) := dk_27 (dk_at dksJ8_rangeCheck_0 0 rfl rfl)
theorem dJ8_rangeCheck_1 : decode cJ8_rangeCheck 1 = .ok (.iload_n 2, 1) := dk_28 (dk_at dksJ8_rangeCheck_0 1 rfl rfl)
theorem dJ8_rangeCheck_2 : decode cJ8_rangeCheck 2 = .ok (.if_icmp .le 44, 3) := dk_164 0 44 (dk_at dksJ8_rangeCheck_0 2 rfl rfl)
theorem dJ8_rangeCheck_5 : decode cJ8_rangeCheck 5 = .ok (.new 43, 3) := dk_187 0 43 (dk_at dksJ8_rangeCheck_0 5 rfl rfl)
theorem dJ8_rangeCheck_8 : decode cJ8_rangeCheck 8 = .ok (.dup, 1) := dk_89 (dk_at dksJ8_rangeCheck_0 8 rfl rfl)
theorem dJ8_rangeCheck_9 : decode cJ8_rangeCheck 9 = .ok (.new 45, 3) := dk_187 0 45 (dk_at dksJ8_rangeCheck_0 9 rfl rfl)
theorem dJ8_rangeCheck_12 : decode cJ8_rangeCheck 12 = .ok (.dup, 1) := dk_89 (dk_at dksJ8_rangeCheck_0 12 rfl rfl)
theorem dJ8_rangeCheck_13 : decode cJ8_rangeCheck 13 = .ok (.invokespecial 47, 3) := dk_183 0 47 (dk_at dksJ8_rangeCheck_0 13 rfl rfl)
theorem dJ8_rangeCheck_16 : decode cJ8_rangeCheck 16 = .ok (.ldc 48, 2) := dk_18 48 (dk_at dksJ8_rangeCheck_0 16 rfl rfl)
theorem dJ8_rangeCheck_18 : decode cJ8_rangeCheck 18 = .ok (.invokevirtual 50, 3) := dk_182 0 50 (dk_at dksJ8_rangeCheck_0 18 rfl rfl)
theorem dJ8_rangeCheck_21 : decode cJ8_rangeCheck 21 = .ok (.iload_n 1, 1) := dk_27 (dk_at dksJ8_rangeCheck_0 21 rfl rfl)
theorem dJ8_rangeCheck_22 : decode cJ8_rangeCheck 22 = .ok (.invokevirtual 54, 3) := dk_182 0 54 (dk_at dksJ8_rangeCheck_1 0 rfl rfl)
theorem dJ8_rangeCheck_25 : decode cJ8_rangeCheck 25 = .ok (.ldc 57, 2) := dk_18 57 (dk_at dksJ8_rangeCheck_1 3 rfl rfl)
theorem dJ8_rangeCheck_27 : decode cJ8_rangeCheck 27 = .ok (.invokevirtual 50, 3) := dk_182 0 50 (dk_at dksJ8_rangeCheck_1 5 rfl rfl)
theorem dJ8_rangeCheck_30 : decode cJ8_rangeCheck 30 = .ok (.iload_n 2, 1) := dk_28 (dk_at dksJ8_rangeCheck_1 8 rfl rfl)
theorem dJ8_rangeCheck_31 : decode cJ8_rangeCheck 31 = .ok (.invokevirtual 54, 3) := dk_182 0 54 (dk_at dksJ8_rangeCheck_1 9 rfl rfl)
theorem dJ8_rangeCheck_34 : decode cJ8_rangeCheck 34 = .ok (.ldc 59, 2) := dk_18 59 (dk_at dksJ8_rangeCheck_1 12 rfl rfl)
theorem dJ8_rangeCheck_36 : decode cJ8_rangeCheck 36 = .ok (.invokevirtual 50, 3) := dk_182 0 50 (dk_at dksJ8_rangeCheck_1 14 rfl rfl)
theorem dJ8_rangeCheck_39 : decode cJ8_rangeCheck 39 = .ok (.invokevirtual 61, 3) := dk_182 0 61 (dk_at dksJ8_rangeCheck_1 17 rfl rfl)
theorem dJ8_rangeCheck_42 : decode cJ8_rangeCheck 42 = .ok (.invokespecial 65, 3) := dk_183 0 65 (dk_at dksJ8_rangeCheck_1 20 rfl rfl)
theorem dJ8_rangeCheck_45 : decode cJ8_rangeCheck 45 = .ok (.athrow, 1) := dk_191 (dk_at dksJ8_rangeCheck_1 23 rfl rfl)
theorem dJ8_rangeCheck_46 : decode cJ8_rangeCheck 46 = .ok (.iload_n 1, 1) := dk_27 (dk_at dksJ8_rangeCheck_2 0 rfl rfl)
theorem dJ8_rangeCheck_47 : decode cJ8_rangeCheck 47 = .ok (.ifCond .ge 12, 3) := dk_156 0 12 (dk_at dksJ8_rangeCheck_2 1 rfl rfl)
theorem dJ8_rangeCheck_50 : decode cJ8_rangeCheck 50 = .ok (.new 68, 3) := dk_187 0 68 (dk_at dksJ8_rangeCheck_2 4 rfl rfl)
theorem dJ8_rangeCheck_53 : decode cJ8_rangeCheck 53 = .ok (.dup, 1) := dk_89 (dk_at dksJ8_rangeCheck_2 7 rfl rfl)
theorem dJ8_rangeCheck_54 : decode cJ8_rangeCheck 54 = .ok (.iload_n 1, 1) := dk_27 (dk_at dksJ8_rangeCheck_2 8 rfl rfl)
theorem dJ8_rangeCheck_55 : decode cJ8_rangeCheck 55 = .ok (.invokespecial 70, 3) := dk_183 0 70 (dk_at dksJ8_rangeCheck_2 9 rfl rfl)
theorem dJ8_rangeCheck_58 : decode cJ8_rangeCheck 58 = .ok (.athrow, 1) := dk_191 (dk_at dksJ8_rangeCheck_2 12 rfl rfl)
theorem dJ8_rangeCheck_59 : decode cJ8_rangeCheck 59 = .ok (.iload_n 2, 1) := dk_28 (dk_at dksJ8_rangeCheck_2 13 rfl rfl)
theorem dJ8_rangeCheck_60 : decode cJ8_rangeCheck 60 = .ok (.iload_n 0, 1) := dk_26 (dk_at dksJ8_rangeCheck_2 14 rfl rfl)
theorem dJ8_rangeCheck_61 : decode cJ8_rangeCheck 61 = .ok (.if_icmp .le 12, 3) := dk_164 0 12 (dk_at dksJ8_rangeCheck_2 15 rfl rfl)
theorem dJ8_rangeCheck_64 : decode cJ8_rangeCheck 64 = .ok (.new 68, 3) := dk_187 0 68 (dk_at dksJ8_rangeCheck_2 18 rfl rfl)
theorem dJ8_rangeCheck_67 : decode cJ8_rangeCheck 67 = .ok (.dup, 1) := dk_89 (dk_at dksJ8_rangeCheck_2 21 rfl rfl)
theorem dJ8_rangeCheck_68 : decode cJ8_rangeCheck 68 = .ok (.iload_n 2, 1) := dk_28 (dk_at dksJ8_rangeCheck_2 22 rfl rfl)
theorem dJ8_rangeCheck_69 : decode cJ8_rangeCheck 69 = .ok (.invokespecial 70, 3) := dk_183 0 70 (dk_at dksJ8_rangeCheck_3 0 rfl rfl)
theorem dJ8_rangeCheck_72 : decode cJ8_rangeCheck 72 = .ok (.athrow, 1) := dk_191 (dk_at dksJ8_rangeCheck_3 3 rfl rfl)
theorem dJ8_rangeCheck_73 : decode cJ8_rangeCheck 73 = .ok (.return_, 1) := dk_177 (dk_at dksJ8_rangeCheck_3 4 rfl rfl)
theorem q75 : (Jvm.Cond.initialized "java/util/Arrays") ∈ lw_all := lw_g (lw_at lw_m1 12 rfl) rfl
theorem q255 : (Jvm.Cond.static ({ cls := "java/util/Arrays", name := "copyOf", desc := "([Ljava/lang/Object;I)[Ljava/lang/Object;" } : Jvm.MethodName)) ∈ lw_all := lw_g (lw_at lw_m1 192 rfl) rfl
theorem q256 : (Jvm.Cond.code ({ cls := "java/util/Arrays", name := "copyOf", desc := "([Ljava/lang/Object;I)[Ljava/lang/Object;" } : Jvm.MethodName) prog_44_method_119_code (2 : Nat) (Option.some (Jvm.ClassFile.FieldType.array (Jvm.ClassFile.FieldType.object "java/lang/Object")))) ∈ lw_all := lw_g (lw_at lw_m1 193 rfl) rfl
theorem q257 : (Jvm.Cond.methodLink "java/util/Arrays" (86 : Nat) ({ cls := "java/lang/Object", name := "getClass", desc := "()Ljava/lang/Class;" } : Jvm.MethodName)) ∈ lw_all := lw_g (lw_at lw_m1 194 rfl) rfl
theorem q284 : (Jvm.Cond.methodLink "java/util/Arrays" (300 : Nat) ({ cls := "java/util/Arrays", name := "copyOf", desc := "([Ljava/lang/Object;ILjava/lang/Class;)[Ljava/lang/Object;" } : Jvm.MethodName)) ∈ lw_all := lw_g (lw_at lw_m1 221 rfl) rfl
theorem q285 : (Jvm.Cond.static ({ cls := "java/util/Arrays", name := "copyOf", desc := "([Ljava/lang/Object;ILjava/lang/Class;)[Ljava/lang/Object;" } : Jvm.MethodName)) ∈ lw_all := lw_g (lw_at lw_m1 222 rfl) rfl
theorem q286 : (Jvm.Cond.code ({ cls := "java/util/Arrays", name := "copyOf", desc := "([Ljava/lang/Object;ILjava/lang/Class;)[Ljava/lang/Object;" } : Jvm.MethodName) prog_44_method_120_code (4 : Nat) (Option.some (Jvm.ClassFile.FieldType.array (Jvm.ClassFile.FieldType.object "java/lang/Object")))) ∈ lw_all := lw_g (lw_at lw_m1 223 rfl) rfl
theorem q287 : (Jvm.Cond.classLink "java/util/Arrays" (110 : Nat) "[Ljava/lang/Object;") ∈ lw_all := lw_g (lw_at lw_m1 224 rfl) rfl
theorem q288 : (Jvm.Cond.classLink "java/util/Arrays" (2 : Nat) "java/lang/Object") ∈ lw_all := lw_g (lw_at lw_m1 225 rfl) rfl
theorem q289 : (Jvm.Cond.methodLink "java/util/Arrays" (304 : Nat) ({ cls := "java/lang/Math", name := "min", desc := "(II)I" } : Jvm.MethodName)) ∈ lw_all := lw_g (lw_at lw_m1 226 rfl) rfl
theorem q292 : (Jvm.Cond.methodLink "java/util/Arrays" (150 : Nat) ({ cls := "java/lang/System", name := "arraycopy", desc := "(Ljava/lang/Object;ILjava/lang/Object;II)V" } : Jvm.MethodName)) ∈ lw_all := lw_g (lw_at lw_m1 229 rfl) rfl
theorem q471 : (Jvm.Cond.static ({ cls := "java/util/Arrays", name := "copyOf", desc := "([JI)[J" } : Jvm.MethodName)) ∈ lw_all := lw_g (lw_at lw_m2 168 rfl) rfl
theorem q472 : (Jvm.Cond.code ({ cls := "java/util/Arrays", name := "copyOf", desc := "([JI)[J" } : Jvm.MethodName) prog_44_method_124_code (3 : Nat) (Option.some (Jvm.ClassFile.FieldType.array Jvm.ClassFile.FieldType.long))) ∈ lw_all := lw_g (lw_at lw_m2 169 rfl) rfl
theorem q473 : (Jvm.Cond.methodLink "java/util/Arrays" (319 : Nat) ({ cls := "[J", name := "clone", desc := "()Ljava/lang/Object;" } : Jvm.MethodName)) ∈ lw_all := lw_g (lw_at lw_m2 170 rfl) rfl
theorem q479 : (Jvm.Cond.classLink "java/util/Arrays" (320 : Nat) "[J") ∈ lw_all := lw_g (lw_at lw_m2 176 rfl) rfl
theorem q682 : (Jvm.Cond.static ({ cls := "java/util/Arrays", name := "copyOf", desc := "([BI)[B" } : Jvm.MethodName)) ∈ lw_all := lw_g (lw_at lw_m3 139 rfl) rfl
theorem q683 : (Jvm.Cond.code ({ cls := "java/util/Arrays", name := "copyOf", desc := "([BI)[B" } : Jvm.MethodName) prog_44_method_121_code (3 : Nat) (Option.some (Jvm.ClassFile.FieldType.array Jvm.ClassFile.FieldType.byte))) ∈ lw_all := lw_g (lw_at lw_m3 140 rfl) rfl
theorem q684 : (Jvm.Cond.methodLink "java/util/Arrays" (310 : Nat) ({ cls := "[B", name := "clone", desc := "()Ljava/lang/Object;" } : Jvm.MethodName)) ∈ lw_all := lw_g (lw_at lw_m3 141 rfl) rfl
theorem q688 : (Jvm.Cond.classLink "java/util/Arrays" (311 : Nat) "[B") ∈ lw_all := lw_g (lw_at lw_m3 145 rfl) rfl
theorem q792 : (Jvm.Cond.static ({ cls := "java/util/Arrays", name := "copyOfRange", desc := "([BII)[B" } : Jvm.MethodName)) ∈ lw_all := lw_g (lw_at lw_m4 9 rfl) rfl
theorem q793 : (Jvm.Cond.code ({ cls := "java/util/Arrays", name := "copyOfRange", desc := "([BII)[B" } : Jvm.MethodName) prog_44_method_132_code (3 : Nat) (Option.some (Jvm.ClassFile.FieldType.array Jvm.ClassFile.FieldType.byte))) ∈ lw_all := lw_g (lw_at lw_m4 10 rfl) rfl
theorem q794 : (Jvm.Cond.methodLink "java/util/Arrays" (339 : Nat) ({ cls := "java/util/Arrays", name := "copyOfRangeByte", desc := "([BII)[B" } : Jvm.MethodName)) ∈ lw_all := lw_g (lw_at lw_m4 11 rfl) rfl
theorem q795 : (Jvm.Cond.static ({ cls := "java/util/Arrays", name := "copyOfRangeByte", desc := "([BII)[B" } : Jvm.MethodName)) ∈ lw_all := lw_g (lw_at lw_m4 12 rfl) rfl
theorem q796 : (Jvm.Cond.code ({ cls := "java/util/Arrays", name := "copyOfRangeByte", desc := "([BII)[B" } : Jvm.MethodName) prog_44_method_133_code (5 : Nat) (Option.some (Jvm.ClassFile.FieldType.array Jvm.ClassFile.FieldType.byte))) ∈ lw_all := lw_g (lw_at lw_m4 13 rfl) rfl
theorem q797 : (Jvm.Cond.methodLink "java/util/Arrays" (343 : Nat) ({ cls := "java/util/Arrays", name := "checkLength", desc := "(II)V" } : Jvm.MethodName)) ∈ lw_all := lw_g (lw_at lw_m4 14 rfl) rfl
theorem q798 : (Jvm.Cond.static ({ cls := "java/util/Arrays", name := "checkLength", desc := "(II)V" } : Jvm.MethodName)) ∈ lw_all := lw_g (lw_at lw_m4 15 rfl) rfl
theorem q799 : (Jvm.Cond.code ({ cls := "java/util/Arrays", name := "checkLength", desc := "(II)V" } : Jvm.MethodName) prog_44_method_131_code (2 : Nat) (Option.none : Option Jvm.ClassFile.FieldType)) ∈ lw_all := lw_g (lw_at lw_m4 16 rfl) rfl
theorem q1712 : (Jvm.Cond.static ({ cls := "java/util/Arrays", name := "fill", desc := "([BIIB)V" } : Jvm.MethodName)) ∈ lw_all := lw_g (lw_at lw_m7 209 rfl) rfl
theorem q1713 : (Jvm.Cond.code ({ cls := "java/util/Arrays", name := "fill", desc := "([BIIB)V" } : Jvm.MethodName) prog_44_method_110_code (5 : Nat) (Option.none : Option Jvm.ClassFile.FieldType)) ∈ lw_all := lw_g (lw_at lw_m7 210 rfl) rfl
theorem q1714 : (Jvm.Cond.methodLink "java/util/Arrays" (13 : Nat) ({ cls := "java/util/Arrays", name := "rangeCheck", desc := "(III)V" } : Jvm.MethodName)) ∈ lw_all := lw_g (lw_at lw_m7 211 rfl) rfl
theorem q1715 : (Jvm.Cond.static ({ cls := "java/util/Arrays", name := "rangeCheck", desc := "(III)V" } : Jvm.MethodName)) ∈ lw_all := lw_g (lw_at lw_m7 212 rfl) rfl
theorem q1716 : (Jvm.Cond.code ({ cls := "java/util/Arrays", name := "rangeCheck", desc := "(III)V" } : Jvm.MethodName) prog_44_method_30_code (3 : Nat) (Option.none : Option Jvm.ClassFile.FieldType)) ∈ lw_all := lw_g (lw_at lw_m7 213 rfl) rfl

/-! java/util/ArrayDeque -/
set_option maxRecDepth 100000
def RJ9 : String := "java/util/ArrayDeque"
def TJ9 : u_T := fun k => match k with
  | 0 => ("java/util/ArrayDeque", "elements", "[Ljava/lang/Object;", false)
  | 1 => ("java/util/ArrayDeque", "head", "I", false)
  | _ => ("java/util/ArrayDeque", "tail", "I", false)
def tyJ9 : Nat → FieldType := fun k => match k with
  | 0 => .array (.object "java/lang/Object")
  | 1 => .int
  | _ => .int
abbrev wsJ90 : List Cond := u_ws RJ9 TJ9 3
theorem nmJ9 : ∀ a, a < 3 → ∀ b, b < 3 → a ≠ b → (TJ9 a).2.1 ≠ (TJ9 b).2.1 := by decide +kernel
theorem tyJ9_ok : ∀ k, k < 3 → parseFieldDescriptor (TJ9 k).2.2.1 = some (tyJ9 k) := by decide +kernel
abbrev cJ9_init : ByteArray := prog_40_method_3_code
def yJ9_init : MethodName := ⟨RJ9, "<init>", "()V"⟩
def dkwJ9_init_0 : List UInt8 := [42, 183, 0, 42, 42, 16, 17, 189, 0, 47, 181, 0, 3, 177]
abbrev dktJ9_init_0 : List UInt8 := dkwJ9_init_0 ++ []
theorem dksJ9_init_0 : cJ9_init.data.toList.drop 0 = dktJ9_init_0 := by decide +kernel
theorem dJ9_init_0 : decode cJ9_init 0 = .ok (.aload_n 0, 1) := dk_42 (dk_at dksJ9_init_0 0 rfl rfl)
theorem dJ9_init_1 : decode cJ9_init 1 = .ok (.invokespecial 42, 3) := dk_183 0 42 (dk_at dksJ9_init_0 1 rfl rfl)
theorem dJ9_init_4 : decode cJ9_init 4 = .ok (.aload_n 0, 1) := dk_42 (dk_at dksJ9_init_0 4 rfl rfl)
theorem dJ9_init_5 : decode cJ9_init 5 = .ok (.bipush 17, 2) := dk_16 17 (dk_at dksJ9_init_0 5 rfl rfl)
theorem dJ9_init_7 : decode cJ9_init 7 = .ok (.anewarray 47, 3) := dk_189 0 47 (dk_at dksJ9_init_0 7 rfl rfl)
theorem dJ9_init_10 : decode cJ9_init 10 = .ok (.putfield 3, 3) := dk_181 0 3 (dk_at dksJ9_init_0 10 rfl rfl)
theorem dJ9_init_13 : decode cJ9_init 13 = .ok (.return_, 1) := dk_177 (dk_at dksJ9_init_0 13 rfl rfl)
abbrev cJ9_addLast : ByteArray := prog_40_method_13_code
def yJ9_addLast : MethodName := ⟨RJ9, "addLast", "(Ljava/lang/Object;)V"⟩
def dkwJ9_addLast_2 : List UInt8 := [182, 0, 71, 177]
abbrev dktJ9_addLast_2 : List UInt8 := dkwJ9_addLast_2 ++ []
def dkwJ9_addLast_1 : List UInt8 := [42, 180, 0, 24, 42, 42, 180, 0, 20, 44, 190, 184, 0, 74, 90, 181, 0, 20, 160, 0, 8, 42, 4]
abbrev dktJ9_addLast_1 : List UInt8 := dkwJ9_addLast_1 ++ dktJ9_addLast_2
def dkwJ9_addLast_0 : List UInt8 := [43, 199, 0, 11, 187, 0, 65, 89, 183, 0, 67, 191, 42, 180, 0, 3, 77, 44, 42, 180, 0, 20, 43, 83]
abbrev dktJ9_addLast_0 : List UInt8 := dkwJ9_addLast_0 ++ dktJ9_addLast_1
theorem dksJ9_addLast_0 : cJ9_addLast.data.toList.drop 0 = dktJ9_addLast_0 := by decide +kernel
theorem dksJ9_addLast_1 : cJ9_addLast.data.toList.drop 24 = dktJ9_addLast_1 := dk_seg dksJ9_addLast_0 24 rfl rfl
theorem dksJ9_addLast_2 : cJ9_addLast.data.toList.drop 47 = dktJ9_addLast_2 := dk_seg dksJ9_addLast_1 23 rfl rfl
theorem dJ9_addLast_0 : decode cJ9_addLast 0 = .ok (.aload_n 1, 1) := dk_43 (dk_at dksJ9_addLast_0 0 rfl rfl)
theorem dJ9_addLast_1 : decode cJ9_addLast 1 = .ok (.ifnonnull 11, 3) := dk_199 0 11 (dk_at dksJ9_addLast_0 1 rfl rfl)
theorem dJ9_addLast_4 : decode cJ9_addLast 4 = .ok (.new 65, 3) := dk_187 0 65 (dk_at dksJ9_addLast_0 4 rfl rfl)
theorem dJ9_addLast_7 : decode cJ9_addLast 7 = .ok (.dup, 1) := dk_89 (dk_at dksJ9_addLast_0 7 rfl rfl)
theorem dJ9_addLast_8 : decode cJ9_addLast 8 = .ok (.invokespecial 67, 3) := dk_183 0 67 (dk_at dksJ9_addLast_0 8 rfl rfl)
theorem dJ9_addLast_11 : decode cJ9_addLast 11 = .ok (.athrow, 1) := dk_191 (dk_at dksJ9_addLast_0 11 rfl rfl)
theorem dJ9_addLast_12 : decode cJ9_addLast 12 = .ok (.aload_n 0, 1) := dk_42 (dk_at dksJ9_addLast_0 12 rfl rfl)
theorem dJ9_addLast_13 : decode cJ9_addLast 13 = .ok (.getfield 3, 3) := dk_180 0 3 (dk_at dksJ9_addLast_0 13 rfl rfl)
theorem dJ9_addLast_16 : decode cJ9_addLast 16 = .ok (.astore_n 2, 1) := dk_77 (dk_at dksJ9_addLast_0 16 rfl rfl)
theorem dJ9_addLast_17 : decode cJ9_addLast 17 = .ok (.aload_n 2, 1) := dk_44 (dk_at dksJ9_addLast_0 17 rfl rfl)
theorem dJ9_addLast_18 : decode cJ9_addLast 18 = .ok (.aload_n 0, 1) := dk_42 (dk_at dksJ9_addLast_0 18 rfl rfl)
theorem dJ9_addLast_19 : decode cJ9_addLast 19 = .ok (.getfield 20, 3) := dk_180 0 20 (dk_at dksJ9_addLast_0 19 rfl rfl)
theorem dJ9_addLast_22 : decode cJ9_addLast 22 = .ok (.aload_n 1, 1) := dk_43 (dk_at dksJ9_addLast_0 22 rfl rfl)
theorem dJ9_addLast_23 : decode cJ9_addLast 23 = .ok (.aastore, 1) := dk_83 (dk_at dksJ9_addLast_0 23 rfl rfl)
theorem dJ9_addLast_24 : decode cJ9_addLast 24 = .ok (.aload_n 0, 1) := dk_42 (dk_at dksJ9_addLast_1 0 rfl rfl)
theorem dJ9_addLast_25 : decode cJ9_addLast 25 = .ok (.getfield 24, 3) := dk_180 0 24 (dk_at dksJ9_addLast_1 1 rfl rfl)
theorem dJ9_addLast_28 : decode cJ9_addLast 28 = .ok (.aload_n 0, 1) := dk_42 (dk_at dksJ9_addLast_1 4 rfl rfl)
theorem dJ9_addLast_29 : decode cJ9_addLast 29 = .ok (.aload_n 0, 1) := dk_42 (dk_at dksJ9_addLast_1 5 rfl rfl)
theorem dJ9_addLast_30 : decode cJ9_addLast 30 = .ok (.getfield 20, 3) := dk_180 0 20 (dk_at dksJ9_addLast_1 6 rfl rfl)
theorem dJ9_addLast_33 : decode cJ9_addLast 33 = .ok (.aload_n 2, 1) := dk_44 (dk_at dksJ9_addLast_1 9 rfl rfl)
theorem dJ9_addLast_34 : decode cJ9_addLast 34 = .ok (.arraylength, 1) := dk_190 (dk_at dksJ9_addLast_1 10 rfl rfl)
theorem dJ9_addLast_35 : decode cJ9_addLast 35 = .ok (.invokestatic 74, 3) := dk_184 0 74 (dk_at dksJ9_addLast_1 11 rfl rfl)
theorem dJ9_addLast_38 : decode cJ9_addLast 38 = .ok (.dup_x1, 1) := dk_90 (dk_at dksJ9_addLast_1 14 rfl rfl)
theorem dJ9_addLast_39 : decode cJ9_addLast 39 = .ok (.putfield 20, 3) := dk_181 0 20 (dk_at dksJ9_addLast_1 15 rfl rfl)
theorem dJ9_addLast_42 : decode cJ9_addLast 42 = .ok (.if_icmp .ne 8, 3) := dk_160 0 8 (dk_at dksJ9_addLast_1 18 rfl rfl)
theorem dJ9_addLast_45 : decode cJ9_addLast 45 = .ok (.aload_n 0, 1) := dk_42 (dk_at dksJ9_addLast_1 21 rfl rfl)
theorem dJ9_addLast_46 : decode cJ9_addLast 46 = .ok (.iconst 1, 1) := dk_4 (dk_at dksJ9_addLast_1 22 rfl rfl)
theorem dJ9_addLast_47 : decode cJ9_addLast 47 = .ok (.invokevirtual 71, 3) := dk_182 0 71 (dk_at dksJ9_addLast_2 0 rfl rfl)
theorem dJ9_addLast_50 : decode cJ9_addLast 50 = .ok (.return_, 1) := dk_177 (dk_at dksJ9_addLast_2 3 rfl rfl)
abbrev cJ9_inc : ByteArray := prog_40_method_6_code
def yJ9_inc : MethodName := ⟨RJ9, "inc", "(II)I"⟩
def dkwJ9_inc_0 : List UInt8 := [132, 0, 1, 26, 27, 161, 0, 5, 3, 59, 26, 172]
abbrev dktJ9_inc_0 : List UInt8 := dkwJ9_inc_0 ++ []
theorem dksJ9_inc_0 : cJ9_inc.data.toList.drop 0 = dktJ9_inc_0 := by decide +kernel
theorem dJ9_inc_0 : decode cJ9_inc 0 = .ok (.iinc 0 1, 3) := dk_132 0 1 (dk_at dksJ9_inc_0 0 rfl rfl)
theorem dJ9_inc_3 : decode cJ9_inc 3 = .ok (.iload_n 0, 1) := dk_26 (dk_at dksJ9_inc_0 3 rfl rfl)
theorem dJ9_inc_4 : decode cJ9_inc 4 = .ok (.iload_n 1, 1) := dk_27 (dk_at dksJ9_inc_0 4 rfl rfl)
theorem dJ9_inc_5 : decode cJ9_inc 5 = .ok (.if_icmp .lt 5, 3) := dk_161 0 5 (dk_at dksJ9_inc_0 5 rfl rfl)
theorem dJ9_inc_8 : decode cJ9_inc 8 = .ok (.iconst 0, 1) := dk_3 (dk_at dksJ9_inc_0 8 rfl rfl)
theorem dJ9_inc_9 : decode cJ9_inc 9 = .ok (.istore_n 0, 1) := dk_59 (dk_at dksJ9_inc_0 9 rfl rfl)
theorem dJ9_inc_10 : decode cJ9_inc 10 = .ok (.iload_n 0, 1) := dk_26 (dk_at dksJ9_inc_0 10 rfl rfl)
theorem dJ9_inc_11 : decode cJ9_inc 11 = .ok (.ireturn, 1) := dk_172 (dk_at dksJ9_inc_0 11 rfl rfl)
abbrev cJ9_grow : ByteArray := prog_40_method_1_code
def yJ9_grow : MethodName := ⟨RJ9, "grow", "(I)V"⟩
def dkwJ9_grow_7 : List UInt8 := [177]
abbrev dktJ9_grow_7 : List UInt8 := dkwJ9_grow_7 ++ []
def dkwJ9_grow_6 : List UInt8 := [181, 0, 24, 54, 8, 21, 7, 21, 8, 162, 0, 15, 25, 5, 21, 7, 1, 83, 132, 7, 1, 167, 255, 240]
abbrev dktJ9_grow_6 : List UInt8 := dkwJ9_grow_6 ++ dktJ9_grow_7
def dkwJ9_grow_5 : List UInt8 := [42, 180, 0, 24, 100, 184, 0, 27, 42, 180, 0, 24, 54, 7, 42, 89, 180, 0, 24, 21, 6, 96, 90]
abbrev dktJ9_grow_5 : List UInt8 := dkwJ9_grow_5 ++ dktJ9_grow_6
def dkwJ9_grow_4 : List UInt8 := [198, 0, 71, 29, 28, 100, 54, 6, 25, 5, 42, 180, 0, 24, 25, 5, 42, 180, 0, 24, 21, 6, 96, 28]
abbrev dktJ9_grow_4 : List UInt8 := dkwJ9_grow_4 ++ dktJ9_grow_5
def dkwJ9_grow_3 : List UInt8 := [180, 0, 24, 161, 0, 24, 42, 180, 0, 20, 42, 180, 0, 24, 160, 0, 81, 25, 5, 42, 180, 0, 24, 50]
abbrev dktJ9_grow_3 : List UInt8 := dkwJ9_grow_3 ++ dktJ9_grow_4
def dkwJ9_grow_2 : List UInt8 := [182, 0, 10, 62, 42, 42, 180, 0, 3, 29, 184, 0, 14, 90, 181, 0, 3, 58, 5, 42, 180, 0, 20, 42]
abbrev dktJ9_grow_2 : List UInt8 := dkwJ9_grow_2 ++ dktJ9_grow_3
def dkwJ9_grow_1 : List UInt8 := [21, 4, 27, 161, 0, 15, 28, 21, 4, 96, 89, 62, 18, 9, 100, 158, 0, 11, 42, 27, 21, 4]
abbrev dktJ9_grow_1 : List UInt8 := dkwJ9_grow_1 ++ dktJ9_grow_2
def dkwJ9_grow_0 : List UInt8 := [42, 180, 0, 3, 190, 61, 28, 16, 64, 162, 0, 9, 28, 5, 96, 167, 0, 6, 28, 4, 122, 54, 4]
abbrev dktJ9_grow_0 : List UInt8 := dkwJ9_grow_0 ++ dktJ9_grow_1
theorem dksJ9_grow_0 : cJ9_grow.data.toList.drop 0 = dktJ9_grow_0 := by decide +kernel
theorem dksJ9_grow_1 : cJ9_grow.data.toList.drop 23 = dktJ9_grow_1 := dk_seg dksJ9_grow_0 23 rfl rfl
theorem dksJ9_grow_2 : cJ9_grow.data.toList.drop 45 = dktJ9_grow_2 := dk_seg dksJ9_grow_1 22 rfl rfl
theorem dksJ9_grow_3 : cJ9_grow.data.toList.drop 69 = dktJ9_grow_3 := dk_seg dksJ9_grow_2 24 rfl rfl
theorem dksJ9_grow_4 : cJ9_grow.data.toList.drop 93 = dktJ9_grow_4 := dk_seg dksJ9_grow_3 24 rfl rfl
theorem dksJ9_grow_5 : cJ9_grow.data.toList.drop 117 = dktJ9_grow_5 := dk_seg dksJ9_grow_4 24 rfl rfl
theorem dksJ9_grow_6 : cJ9_grow.data.toList.drop 140 = dktJ9_grow_6 := dk_seg dksJ9_grow_5 23 rfl rfl
theorem dksJ9_grow_7 : cJ9_grow.data.toList.drop 164 = dktJ9_grow_7 := dk_seg dksJ9_grow_6 24 rfl rfl
theorem dJ9_grow_0 : decode cJ9_grow 0 = .ok (.aload_n 0, 1) := dk_42 (dk_at dksJ9_grow_0 0 rfl rfl)
theorem dJ9_grow_1 : decode cJ9_grow 1 = .ok (.getfield 3, 3) := dk_180 0 3 (dk_at dksJ9_grow_0 1 rfl rfl)
theorem dJ9_grow_4 : decode cJ9_grow 4 = .ok (.arraylength, 1) := dk_190 (dk_at dksJ9_grow_0 4 rfl rfl)
theorem dJ9_grow_5 : decode cJ9_grow 5 = .ok (.istore_n 2, 1) := dk_61 (dk_at dksJ9_grow_0 5 rfl rfl)
theorem dJ9_grow_6 : decode cJ9_grow 6 = .ok (.iload_n 2, 1) := dk_28 (dk_at dksJ9_grow_0 6 rfl rfl)
theorem dJ9_grow_7 : decode cJ9_grow 7 = .ok (.bipush 64, 2) := dk_16 64 (dk_at dksJ9_grow_0 7 rfl rfl)
theorem dJ9_grow_9 : decode cJ9_grow 9 = .ok (.if_icmp .ge 9, 3) := dk_162 0 9 (dk_at dksJ9_grow_0 9 rfl rfl)
theorem dJ9_grow_12 : decode cJ9_grow 12 = .ok (.iload_n 2, 1) := dk_28 (dk_at dksJ9_grow_0 12 rfl rfl)
theorem dJ9_grow_13 : decode cJ9_grow 13 = .ok (.iconst 2, 1) := dk_5 (dk_at dksJ9_grow_0 13 rfl rfl)
theorem dJ9_grow_14 : decode cJ9_grow 14 = .ok (.iadd, 1) := dk_96 (dk_at dksJ9_grow_0 14 rfl rfl)
theorem dJ9_grow_15 : decode cJ9_grow 15 = .ok (.goto 6, 3) := dk_167 0 6 (dk_at dksJ9_grow_0 15 rfl rfl)
theorem dJ9_grow_18 : decode cJ9_grow 18 = .ok (.iload_n 2, 1) := dk_28 (dk_at dksJ9_grow_0 18 rfl rfl)
theorem dJ9_grow_19 : decode cJ9_grow 19 = .ok (.iconst 1, 1) := dk_4 (dk_at dksJ9_grow_0 19 rfl rfl)
theorem dJ9_grow_20 : decode cJ9_grow 20 = .ok (.ishr, 1) := dk_122 (dk_at dksJ9_grow_0 20 rfl rfl)
theorem dJ9_grow_21 : decode cJ9_grow 21 = .ok (.istore 4, 2) := dk_54 4 (dk_at dksJ9_grow_0 21 rfl rfl)
theorem dJ9_grow_23 : decode cJ9_grow 23 = .ok (.iload 4, 2) := dk_21 4 (dk_at dksJ9_grow_1 0 rfl rfl)
theorem dJ9_grow_25 : decode cJ9_grow 25 = .ok (.iload_n 1, 1) := dk_27 (dk_at dksJ9_grow_1 2 rfl rfl)
theorem dJ9_grow_26 : decode cJ9_grow 26 = .ok (.if_icmp .lt 15, 3) := dk_161 0 15 (dk_at dksJ9_grow_1 3 rfl rfl)
theorem dJ9_grow_29 : decode cJ9_grow 29 = .ok (.iload_n 2, 1) := dk_28 (dk_at dksJ9_grow_1 6 rfl rfl)
theorem dJ9_grow_30 : decode cJ9_grow 30 = .ok (.iload 4, 2) := dk_21 4 (dk_at dksJ9_grow_1 7 rfl rfl)
theorem dJ9_grow_32 : decode cJ9_grow 32 = .ok (.iadd, 1) := dk_96 (dk_at dksJ9_grow_1 9 rfl rfl)
theorem dJ9_grow_33 : decode cJ9_grow 33 = .ok (.dup, 1) := dk_89 (dk_at dksJ9_grow_1 10 rfl rfl)
theorem dJ9_grow_34 : decode cJ9_grow 34 = .ok (.istore_n 3, 1) := dk_62 (dk_at dksJ9_grow_1 11 rfl rfl)
theorem dJ9_grow_35 : decode cJ9_grow 35 = .ok (.ldc 9, 2) := dk_18 9 (dk_at dksJ9_grow_1 12 rfl rfl)
theorem dJ9_grow_37 : decode cJ9_grow 37 = .ok (.isub, 1) := dk_100 (dk_at dksJ9_grow_1 14 rfl rfl)
theorem dJ9_grow_38 : decode cJ9_grow 38 = .ok (.ifCond .le 11, 3) := dk_158 0 11 (dk_at dksJ9_grow_1 15 rfl rfl)
theorem dJ9_grow_41 : decode cJ9_grow 41 = .ok (.aload_n 0, 1) := dk_42 (dk_at dksJ9_grow_1 18 rfl rfl)
theorem dJ9_grow_42 : decode cJ9_grow 42 = .ok (.iload_n 1, 1) := dk_27 (dk_at dksJ9_grow_1 19 rfl rfl)
theorem dJ9_grow_43 : decode cJ9_grow 43 = .ok (.iload 4, 2) := dk_21 4 (dk_at dksJ9_grow_1 20 rfl rfl)
theorem dJ9_grow_45 : decode cJ9_grow 45 = .ok (.invokevirtual 10, 3) := dk_182 0 10 (dk_at dksJ9_grow_2 0 rfl rfl)
theorem dJ9_grow_48 : decode cJ9_grow 48 = .ok (.istore_n 3, 1) := dk_62 (dk_at dksJ9_grow_2 3 rfl rfl)
theorem dJ9_grow_49 : decode cJ9_grow 49 = .ok (.aload_n 0, 1) := dk_42 (dk_at dksJ9_grow_2 4 rfl rfl)
theorem dJ9_grow_50 : decode cJ9_grow 50 = .ok (.aload_n 0, 1) := dk_42 (dk_at dksJ9_grow_2 5 rfl rfl)
theorem dJ9_grow_51 : decode cJ9_grow 51 = .ok (.getfield 3, 3) := dk_180 0 3 (dk_at dksJ9_grow_2 6 rfl rfl)
theorem dJ9_grow_54 : decode cJ9_grow 54 = .ok (.iload_n 3, 1) := dk_29 (dk_at dksJ9_grow_2 9 rfl rfl)
theorem dJ9_grow_55 : decode cJ9_grow 55 = .ok (.invokestatic 14, 3) := dk_184 0 14 (dk_at dksJ9_grow_2 10 rfl rfl)
theorem dJ9_grow_58 : decode cJ9_grow 58 = .ok (.dup_x1, 1) := dk_90 (dk_at dksJ9_grow_2 13 rfl rfl)
theorem dJ9_grow_59 : decode cJ9_grow 59 = .ok (.putfield 3, 3) := dk_181 0 3 (dk_at dksJ9_grow_2 14 rfl rfl)
theorem dJ9_grow_62 : decode cJ9_grow 62 = .ok (.astore 5, 2) := dk_58 5 (dk_at dksJ9_grow_2 17 rfl rfl)
theorem dJ9_grow_64 : decode cJ9_grow 64 = .ok (.aload_n 0, 1) := dk_42 (dk_at dksJ9_grow_2 19 rfl rfl)
theorem dJ9_grow_65 : decode cJ9_grow 65 = .ok (.getfield 20, 3) := dk_180 0 20 (dk_at dksJ9_grow_2 20 rfl rfl)
theorem dJ9_grow_68 : decode cJ9_grow 68 = .ok (.aload_n 0, 1) := dk_42 (dk_at dksJ9_grow_2 23 rfl rfl)
theorem dJ9_grow_69 : decode cJ9_grow 69 = .ok (.getfield 24, 3) := dk_180 0 24 (dk_at dksJ9_grow_3 0 rfl rfl)
theorem dJ9_grow_72 : decode cJ9_grow 72 = .ok (.if_icmp .lt 24, 3) := dk_161 0 24 (dk_at dksJ9_grow_3 3 rfl rfl)
theorem dJ9_grow_75 : decode cJ9_grow 75 = .ok (.aload_n 0, 1) := dk_42 (dk_at dksJ9_grow_3 6 rfl rfl)
theorem dJ9_grow_76 : decode cJ9_grow 76 = .ok (.getfield 20, 3) := dk_180 0 20 (dk_at dksJ9_grow_3 7 rfl rfl)
theorem dJ9_grow_79 : decode cJ9_grow 79 = .ok (.aload_n 0, 1) := dk_42 (dk_at dksJ9_grow_3 10 rfl rfl)
theorem dJ9_grow_80 : decode cJ9_grow 80 = .ok (.getfield 24, 3) := dk_180 0 24 (dk_at dksJ9_grow_3 11 rfl rfl)
theorem dJ9_grow_83 : decode cJ9_grow 83 = .ok (.if_icmp .ne 81, 3) := dk_160 0 81 (dk_at dksJ9_grow_3 14 rfl rfl)
theorem dJ9_grow_86 : decode cJ9_grow 86 = .ok (.aload 5, 2) := dk_25 5 (dk_at dksJ9_grow_3 17 rfl rfl)
theorem dJ9_grow_88 : decode cJ9_grow 88 = .ok (.aload_n 0, 1) := dk_42 (dk_at dksJ9_grow_3 19 rfl rfl)
theorem dJ9_grow_89 : decode cJ9_grow 89 = .ok (.getfield 24, 3) := dk_180 0 24 (dk_at dksJ9_grow_3 20 rfl rfl)
theorem dJ9_grow_92 : decode cJ9_grow 92 = .ok (.aaload, 1) := dk_50 (dk_at dksJ9_grow_3 23 rfl rfl)
theorem dJ9_grow_93 : decode cJ9_grow 93 = .ok (.ifnull 71, 3) := dk_198 0 71 (dk_at dksJ9_grow_4 0 rfl rfl)
theorem dJ9_grow_96 : decode cJ9_grow 96 = .ok (.iload_n 3, 1) := dk_29 (dk_at dksJ9_grow_4 3 rfl rfl)
theorem dJ9_grow_97 : decode cJ9_grow 97 = .ok (.iload_n 2, 1) := dk_28 (dk_at dksJ9_grow_4 4 rfl rfl)
theorem dJ9_grow_98 : decode cJ9_grow 98 = .ok (.isub, 1) := dk_100 (dk_at dksJ9_grow_4 5 rfl rfl)
theorem dJ9_grow_99 : decode cJ9_grow 99 = .ok (.istore 6, 2) := dk_54 6 (dk_at dksJ9_grow_4 6 rfl rfl)
theorem dJ9_grow_101 : decode cJ9_grow 101 = .ok (.aload 5, 2) := dk_25 5 (dk_at dksJ9_grow_4 8 rfl rfl)
theorem dJ9_grow_103 : decode cJ9_grow 103 = .ok (.aload_n 0, 1) := dk_42 (dk_at dksJ9_grow_4 10 rfl rfl)
theorem dJ9_grow_104 : decode cJ9_grow 104 = .ok (.getfield 24, 3) := dk_180 0 24 (dk_at dksJ9_grow_4 11 rfl rfl)
theorem dJ9_grow_107 : decode cJ9_grow 107 = .ok (.aload 5, 2) := dk_25 5 (dk_at dksJ9_grow_4 14 rfl rfl)
theorem dJ9_grow_109 : decode cJ9_grow 109 = .ok (.aload_n 0, 1) := dk_42 (dk_at dksJ9_grow_4 16 rfl rfl)
theorem dJ9_grow_110 : decode cJ9_grow 110 = .ok (.getfield 24, 3) := dk_180 0 24 (dk_at dksJ9_grow_4 17 rfl rfl)
theorem dJ9_grow_113 : decode cJ9_grow 113 = .ok (.iload 6, 2) := dk_21 6 (dk_at dksJ9_grow_4 20 rfl rfl)
theorem dJ9_grow_115 : decode cJ9_grow 115 = .ok (.iadd, 1) := dk_96 (dk_at dksJ9_grow_4 22 rfl rfl)
theorem dJ9_grow_116 : decode cJ9_grow 116 = .ok (.iload_n 2, 1) := dk_28 (dk_at dksJ9_grow_4 23 rfl rfl)
theorem dJ9_grow_117 : decode cJ9_grow 117 = .ok (.aload_n 0, 1) := dk_42 (dk_at dksJ9_grow_5 0 rfl rfl)
theorem dJ9_grow_118 : decode cJ9_grow 118 = .ok (.getfield 24, 3) := dk_180 0 24 (dk_at dksJ9_grow_5 1 rfl rfl)
theorem dJ9_grow_121 : decode cJ9_grow 121 = .ok (.isub, 1) := dk_100 (dk_at dksJ9_grow_5 4 rfl rfl)
theorem dJ9_grow_122 : decode cJ9_grow 122 = .ok (.invokestatic 27, 3) := dk_184 0 27 (dk_at dksJ9_grow_5 5 rfl rfl)
theorem dJ9_grow_125 : decode cJ9_grow 125 = .ok (.aload_n 0, 1) := dk_42 (dk_at dksJ9_grow_5 8 rfl rfl)
theorem dJ9_grow_126 : decode cJ9_grow 126 = .ok (.getfield 24, 3) := dk_180 0 24 (dk_at dksJ9_grow_5 9 rfl rfl)
theorem dJ9_grow_129 : decode cJ9_grow 129 = .ok (.istore 7, 2) := dk_54 7 (dk_at dksJ9_grow_5 12 rfl rfl)
theorem dJ9_grow_131 : decode cJ9_grow 131 = .ok (.aload_n 0, 1) := dk_42 (dk_at dksJ9_grow_5 14 rfl rfl)
theorem dJ9_grow_132 : decode cJ9_grow 132 = .ok (.dup, 1) := dk_89 (dk_at dksJ9_grow_5 15 rfl rfl)
theorem dJ9_grow_133 : decode cJ9_grow 133 = .ok (.getfield 24, 3) := dk_180 0 24 (dk_at dksJ9_grow_5 16 rfl rfl)
theorem dJ9_grow_136 : decode cJ9_grow 136 = .ok (.iload 6, 2) := dk_21 6 (dk_at dksJ9_grow_5 19 rfl rfl)
theorem dJ9_grow_138 : decode cJ9_grow 138 = .ok (.iadd, 1) := dk_96 (dk_at dksJ9_grow_5 21 rfl rfl)
theorem dJ9_grow_139 : decode cJ9_grow 139 = .ok (.dup_x1, 1) := dk_90 (dk_at dksJ9_grow_5 22 rfl rfl)
theorem dJ9_grow_140 : decode cJ9_grow 140 = .ok (.putfield 24, 3) := dk_181 0 24 (dk_at dksJ9_grow_6 0 rfl rfl)
theorem dJ9_grow_143 : decode cJ9_grow 143 = .ok (.istore 8, 2) := dk_54 8 (dk_at dksJ9_grow_6 3 rfl rfl)
theorem dJ9_grow_145 : decode cJ9_grow 145 = .ok (.iload 7, 2) := dk_21 7 (dk_at dksJ9_grow_6 5 rfl rfl)
theorem dJ9_grow_147 : decode cJ9_grow 147 = .ok (.iload 8, 2) := dk_21 8 (dk_at dksJ9_grow_6 7 rfl rfl)
theorem dJ9_grow_149 : decode cJ9_grow 149 = .ok (.if_icmp .ge 15, 3) := dk_162 0 15 (dk_at dksJ9_grow_6 9 rfl rfl)
theorem dJ9_grow_152 : decode cJ9_grow 152 = .ok (.aload 5, 2) := dk_25 5 (dk_at dksJ9_grow_6 12 rfl rfl)
theorem dJ9_grow_154 : decode cJ9_grow 154 = .ok (.iload 7, 2) := dk_21 7 (dk_at dksJ9_grow_6 14 rfl rfl)
theorem dJ9_grow_156 : decode cJ9_grow 156 = .ok (.aconst_null, 1) := dk_1 (dk_at dksJ9_grow_6 16 rfl rfl)
theorem dJ9_grow_157 : decode cJ9_grow 157 = .ok (.aastore, 1) := dk_83 (dk_at dksJ9_grow_6 17 rfl rfl)
theorem dJ9_grow_158 : decode cJ9_grow 158 = .ok (.iinc 7 1, 3) := dk_132 7 1 (dk_at dksJ9_grow_6 18 rfl rfl)
theorem dJ9_grow_161 : decode cJ9_grow 161 = .ok (.goto (-16), 3) := dk_167 255 240 (dk_at dksJ9_grow_6 21 rfl rfl)
theorem dJ9_grow_164 : decode cJ9_grow 164 = .ok (.return_, 1) := dk_177 (dk_at dksJ9_grow_7 0 rfl rfl)
abbrev cJ9_newCapacity : ByteArray := prog_40_method_2_code
def yJ9_newCapacity : MethodName := ⟨RJ9, "newCapacity", "(II)I"⟩
def dkwJ9_newCapacity_2 : List UInt8 := [18, 9, 100, 156, 0, 9, 29, 28, 96, 167, 0, 5, 18, 9, 172]
abbrev dktJ9_newCapacity_2 : List UInt8 := dkwJ9_newCapacity_2 ++ []
def dkwJ9_newCapacity_1 : List UInt8 := [187, 0, 33, 89, 18, 35, 183, 0, 37, 191, 18, 41, 172, 27, 28, 164, 0, 6, 21, 4, 172, 29, 28, 96]
abbrev dktJ9_newCapacity_1 : List UInt8 := dkwJ9_newCapacity_1 ++ dktJ9_newCapacity_2
def dkwJ9_newCapacity_0 : List UInt8 := [42, 180, 0, 3, 190, 62, 29, 27, 96, 89, 54, 4, 18, 9, 100, 158, 0, 21, 21, 4, 156, 0, 13]
abbrev dktJ9_newCapacity_0 : List UInt8 := dkwJ9_newCapacity_0 ++ dktJ9_newCapacity_1
theorem dksJ9_newCapacity_0 : cJ9_newCapacity.data.toList.drop 0 = dktJ9_newCapacity_0 := by decide +kernel
theorem dksJ9_newCapacity_1 : cJ9_newCapacity.data.toList.drop 23 = dktJ9_newCapacity_1 := dk_seg dksJ9_newCapacity_0 23 rfl rfl
theorem dksJ9_newCapacity_2 : cJ9_newCapacity.data.toList.drop 47 = dktJ9_newCapacity_2 := dk_seg dksJ9_newCapacity_1 24 rfl rfl
theorem dJ9_newCapacity_0 : decode cJ9_newCapacity 0 = .ok (.aload_n 0, 1) := dk_42 (dk_at dksJ9_newCapacity_0 0 rfl rfl)
theorem dJ9_newCapacity_1 : decode cJ9_newCapacity 1 = .ok (.getfield 3, 3) := dk_180 0 3 (dk_at dksJ9_newCapacity_0 1 rfl rfl)
theorem dJ9_newCapacity_4 : decode cJ9_newCapacity 4 = .ok (.arraylength, 1) := dk_190 (dk_at dksJ9_newCapacity_0 4 rfl rfl)
theorem dJ9_newCapacity_5 : decode cJ9_newCapacity 5 = .ok (.istore_n 3, 1) := dk_62 (dk_at dksJ9_newCapacity_0 5 rfl rfl)
theorem dJ9_newCapacity_6 : decode cJ9_newCapacity 6 = .ok (.iload_n 3, 1) := dk_29 (dk_at dksJ9_newCapacity_0 6 rfl rfl)
theorem dJ9_newCapacity_7 : decode cJ9_newCapacity 7 = .ok (.iload_n 1, 1) := dk_27 (dk_at dksJ9_newCapacity_0 7 rfl rfl)
theorem dJ9_newCapacity_8 : decode cJ9_newCapacity 8 = .ok (.iadd, 1) := dk_96 (dk_at dksJ9_newCapacity_0 8 rfl rfl)
theorem dJ9_newCapacity_9 : decode cJ9_newCapacity 9 = .ok (.dup, 1) := dk_89 (dk_at dksJ9_newCapacity_0 9 rfl rfl)
theorem dJ9_newCapacity_10 : decode cJ9_newCapacity 10 = .ok (.istore 4, 2) := dk_54 4 (dk_at dksJ9_newCapacity_0 10 rfl rfl)
theorem dJ9_newCapacity_12 : decode cJ9_newCapacity 12 = .ok (.ldc 9, 2) := dk_18 9 (dk_at dksJ9_newCapacity_0 12 rfl rfl)
theorem dJ9_newCapacity_14 : decode cJ9_newCapacity 14 = .ok (.isub, 1) := dk_100 (dk_at dksJ9_newCapacity_0 14 rfl rfl)
theorem dJ9_newCapacity_15 : decode cJ9_newCapacity 15 = .ok (.ifCond .le 21, 3) := dk_158 0 21 (dk_at dksJ9_newCapacity_0 15 rfl rfl)
theorem dJ9_newCapacity_18 : decode cJ9_newCapacity 18 = .ok (.iload 4, 2) := dk_21 4 (dk_at dksJ9_newCapacity_0 18 rfl rfl)
theorem dJ9_newCapacity_20 : decode cJ9_newCapacity 20 = .ok (.ifCond .ge 13, 3) := dk_156 0 13 (dk_at dksJ9_newCapacity_0 20 rfl rfl)
theorem dJ9_newCapacity_23 : decode cJ9_newCapacity 23 = .ok (.new 33, 3) := dk_187 0 33 (dk_at dksJ9_newCapacity_1 0 rfl rfl)
theorem dJ9_newCapacity_26 : decode cJ9_newCapacity 26 = .ok (.dup, 1) := dk_89 (dk_at dksJ9_newCapacity_1 3 rfl rfl)
theorem dJ9_newCapacity_27 : decode cJ9_newCapacity 27 = .ok (.ldc 35, 2) := dk_18 35 (dk_at dksJ9_newCapacity_1 4 rfl rfl)
theorem dJ9_newCapacity_29 : decode cJ9_newCapacity 29 = .ok (.invokespecial 37, 3) := dk_183 0 37 (dk_at dksJ9_newCapacity_1 6 rfl rfl)
theorem dJ9_newCapacity_32 : decode cJ9_newCapacity 32 = .ok (.athrow, 1) := dk_191 (dk_at dksJ9_newCapacity_1 9 rfl rfl)
theorem dJ9_newCapacity_33 : decode cJ9_newCapacity 33 = .ok (.ldc 41, 2) := dk_18 41 (dk_at dksJ9_newCapacity_1 10 rfl rfl)
theorem dJ9_newCapacity_35 : decode cJ9_newCapacity 35 = .ok (.ireturn, 1) := dk_172 (dk_at dksJ9_newCapacity_1 12 rfl rfl)
theorem dJ9_newCapacity_36 : decode cJ9_newCapacity 36 = .ok (.iload_n 1, 1) := dk_27 (dk_at dksJ9_newCapacity_1 13 rfl rfl)
theorem dJ9_newCapacity_37 : decode cJ9_newCapacity 37 = .ok (.iload_n 2, 1) := dk_28 (dk_at dksJ9_newCapacity_1 14 rfl rfl)
theorem dJ9_newCapacity_38 : decode cJ9_newCapacity 38 = .ok (.if_icmp .le 6, 3) := dk_164 0 6 (dk_at dksJ9_newCapacity_1 15 rfl rfl)
theorem dJ9_newCapacity_41 : decode cJ9_newCapacity 41 = .ok (.iload 4, 2) := dk_21 4 (dk_at dksJ9_newCapacity_1 18 rfl rfl)
theorem dJ9_newCapacity_43 : decode cJ9_newCapacity 43 = .ok (.ireturn, 1) := dk_172 (dk_at dksJ9_newCapacity_1 20 rfl rfl)
theorem dJ9_newCapacity_44 : decode cJ9_newCapacity 44 = .ok (.iload_n 3, 1) := dk_29 (dk_at dksJ9_newCapacity_1 21 rfl rfl)
theorem dJ9_newCapacity_45 : decode cJ9_newCapacity 45 = .ok (.iload_n 2, 1) := dk_28 (dk_at dksJ9_newCapacity_1 22 rfl rfl)
theorem dJ9_newCapacity_46 : decode cJ9_newCapacity 46 = .ok (.iadd, 1) := dk_96 (dk_at dksJ9_newCapacity_1 23 rfl rfl)
theorem dJ9_newCapacity_47 : decode cJ9_newCapacity 47 = .ok (.ldc 9, 2) := dk_18 9 (dk_at dksJ9_newCapacity_2 0 rfl rfl)
theorem dJ9_newCapacity_49 : decode cJ9_newCapacity 49 = .ok (.isub, 1) := dk_100 (dk_at dksJ9_newCapacity_2 2 rfl rfl)
theorem dJ9_newCapacity_50 : decode cJ9_newCapacity 50 = .ok (.ifCond .ge 9, 3) := dk_156 0 9 (dk_at dksJ9_newCapacity_2 3 rfl rfl)
theorem dJ9_newCapacity_53 : decode cJ9_newCapacity 53 = .ok (.iload_n 3, 1) := dk_29 (dk_at dksJ9_newCapacity_2 6 rfl rfl)
theorem dJ9_newCapacity_54 : decode cJ9_newCapacity 54 = .ok (.iload_n 2, 1) := dk_28 (dk_at dksJ9_newCapacity_2 7 rfl rfl)
theorem dJ9_newCapacity_55 : decode cJ9_newCapacity 55 = .ok (.iadd, 1) := dk_96 (dk_at dksJ9_newCapacity_2 8 rfl rfl)
theorem dJ9_newCapacity_56 : decode cJ9_newCapacity 56 = .ok (.goto 5, 3) := dk_167 0 5 (dk_at dksJ9_newCapacity_2 9 rfl rfl)
theorem dJ9_newCapacity_59 : decode cJ9_newCapacity 59 = .ok (.ldc 9, 2) := dk_18 9 (dk_at dksJ9_newCapacity_2 12 rfl rfl)
theorem dJ9_newCapacity_61 : decode cJ9_newCapacity 61 = .ok (.ireturn, 1) := dk_172 (dk_at dksJ9_newCapacity_2 14 rfl rfl)
abbrev cJ9_size : ByteArray := prog_40_method_37_code
def yJ9_size : MethodName := ⟨RJ9, "size", "()I"⟩
def dkwJ9_size_0 : List UInt8 := [42, 180, 0, 20, 42, 180, 0, 24, 42, 180, 0, 3, 190, 184, 0, 127, 172]
abbrev dktJ9_size_0 : List UInt8 := dkwJ9_size_0 ++ []
theorem dksJ9_size_0 : cJ9_size.data.toList.drop 0 = dktJ9_size_0 := by decide +kernel
theorem dJ9_size_0 : decode cJ9_size 0 = .ok (.aload_n 0, 1) := dk_42 (dk_at dksJ9_size_0 0 rfl rfl)
theorem dJ9_size_1 : decode cJ9_size 1 = .ok (.getfield 20, 3) := dk_180 0 20 (dk_at dksJ9_size_0 1 rfl rfl)
theorem dJ9_size_4 : decode cJ9_size 4 = .ok (.aload_n 0, 1) := dk_42 (dk_at dksJ9_size_0 4 rfl rfl)
theorem dJ9_size_5 : decode cJ9_size 5 = .ok (.getfield 24, 3) := dk_180 0 24 (dk_at dksJ9_size_0 5 rfl rfl)
theorem dJ9_size_8 : decode cJ9_size 8 = .ok (.aload_n 0, 1) := dk_42 (dk_at dksJ9_size_0 8 rfl rfl)
theorem dJ9_size_9 : decode cJ9_size 9 = .ok (.getfield 3, 3) := dk_180 0 3 (dk_at dksJ9_size_0 9 rfl rfl)
theorem dJ9_size_12 : decode cJ9_size 12 = .ok (.arraylength, 1) := dk_190 (dk_at dksJ9_size_0 12 rfl rfl)
theorem dJ9_size_13 : decode cJ9_size 13 = .ok (.invokestatic 127, 3) := dk_184 0 127 (dk_at dksJ9_size_0 13 rfl rfl)
theorem dJ9_size_16 : decode cJ9_size 16 = .ok (.ireturn, 1) := dk_172 (dk_at dksJ9_size_0 16 rfl rfl)
abbrev cJ9_sub : ByteArray := prog_40_method_9_code
def yJ9_sub : MethodName := ⟨RJ9, "sub", "(III)I"⟩
def dkwJ9_sub_0 : List UInt8 := [26, 27, 100, 89, 59, 156, 0, 7, 26, 28, 96, 59, 26, 172]
abbrev dktJ9_sub_0 : List UInt8 := dkwJ9_sub_0 ++ []
theorem dksJ9_sub_0 : cJ9_sub.data.toList.drop 0 = dktJ9_sub_0 := by decide +kernel
theorem dJ9_sub_0 : decode cJ9_sub 0 = .ok (.iload_n 0, 1) := dk_26 (dk_at dksJ9_sub_0 0 rfl rfl)
theorem dJ9_sub_1 : decode cJ9_sub 1 = .ok (.iload_n 1, 1) := dk_27 (dk_at dksJ9_sub_0 1 rfl rfl)
theorem dJ9_sub_2 : decode cJ9_sub 2 = .ok (.isub, 1) := dk_100 (dk_at dksJ9_sub_0 2 rfl rfl)
theorem dJ9_sub_3 : decode cJ9_sub 3 = .ok (.dup, 1) := dk_89 (dk_at dksJ9_sub_0 3 rfl rfl)
theorem dJ9_sub_4 : decode cJ9_sub 4 = .ok (.istore_n 0, 1) := dk_59 (dk_at dksJ9_sub_0 4 rfl rfl)
theorem dJ9_sub_5 : decode cJ9_sub 5 = .ok (.ifCond .ge 7, 3) := dk_156 0 7 (dk_at dksJ9_sub_0 5 rfl rfl)
theorem dJ9_sub_8 : decode cJ9_sub 8 = .ok (.iload_n 0, 1) := dk_26 (dk_at dksJ9_sub_0 8 rfl rfl)
theorem dJ9_sub_9 : decode cJ9_sub 9 = .ok (.iload_n 2, 1) := dk_28 (dk_at dksJ9_sub_0 9 rfl rfl)
theorem dJ9_sub_10 : decode cJ9_sub 10 = .ok (.iadd, 1) := dk_96 (dk_at dksJ9_sub_0 10 rfl rfl)
theorem dJ9_sub_11 : decode cJ9_sub 11 = .ok (.istore_n 0, 1) := dk_59 (dk_at dksJ9_sub_0 11 rfl rfl)
theorem dJ9_sub_12 : decode cJ9_sub 12 = .ok (.iload_n 0, 1) := dk_26 (dk_at dksJ9_sub_0 12 rfl rfl)
theorem dJ9_sub_13 : decode cJ9_sub 13 = .ok (.ireturn, 1) := dk_172 (dk_at dksJ9_sub_0 13 rfl rfl)
abbrev cJ9_removeFirst : ByteArray := prog_40_method_18_code
def yJ9_removeFirst : MethodName := ⟨RJ9, "removeFirst", "()Ljava/lang/Object;"⟩
def dkwJ9_removeFirst_0 : List UInt8 := [42, 182, 0, 93, 76, 43, 199, 0, 11, 187, 0, 97, 89, 183, 0, 99, 191, 43, 176]
abbrev dktJ9_removeFirst_0 : List UInt8 := dkwJ9_removeFirst_0 ++ []
theorem dksJ9_removeFirst_0 : cJ9_removeFirst.data.toList.drop 0 = dktJ9_removeFirst_0 := by decide +kernel
theorem dJ9_removeFirst_0 : decode cJ9_removeFirst 0 = .ok (.aload_n 0, 1) := dk_42 (dk_at dksJ9_removeFirst_0 0 rfl rfl)
theorem dJ9_removeFirst_1 : decode cJ9_removeFirst 1 = .ok (.invokevirtual 93, 3) := dk_182 0 93 (dk_at dksJ9_removeFirst_0 1 rfl rfl)
theorem dJ9_removeFirst_4 : decode cJ9_removeFirst 4 = .ok (.astore_n 1, 1) := dk_76 (dk_at dksJ9_removeFirst_0 4 rfl rfl)
theorem dJ9_removeFirst_5 : decode cJ9_removeFirst 5 = .ok (.aload_n 1, 1) := dk_43 (dk_at dksJ9_removeFirst_0 5 rfl rfl)
theorem dJ9_removeFirst_6 : decode cJ9_removeFirst 6 = .ok (.ifnonnull 11, 3) := dk_199 0 11 (dk_at dksJ9_removeFirst_0 6 rfl rfl)
theorem dJ9_removeFirst_9 : decode cJ9_removeFirst 9 = .ok (.new 97, 3) := dk_187 0 97 (dk_at dksJ9_removeFirst_0 9 rfl rfl)
theorem dJ9_removeFirst_12 : decode cJ9_removeFirst 12 = .ok (.dup, 1) := dk_89 (dk_at dksJ9_removeFirst_0 12 rfl rfl)
theorem dJ9_removeFirst_13 : decode cJ9_removeFirst 13 = .ok (.invokespecial 99, 3) := dk_183 0 99 (dk_at dksJ9_removeFirst_0 13 rfl rfl)
theorem dJ9_removeFirst_16 : decode cJ9_removeFirst 16 = .ok (.athrow, 1) := dk_191 (dk_at dksJ9_removeFirst_0 16 rfl rfl)
theorem dJ9_removeFirst_17 : decode cJ9_removeFirst 17 = .ok (.aload_n 1, 1) := dk_43 (dk_at dksJ9_removeFirst_0 17 rfl rfl)
theorem dJ9_removeFirst_18 : decode cJ9_removeFirst 18 = .ok (.areturn, 1) := dk_176 (dk_at dksJ9_removeFirst_0 18 rfl rfl)
abbrev cJ9_pollFirst : ByteArray := prog_40_method_20_code
def yJ9_pollFirst : MethodName := ⟨RJ9, "pollFirst", "()Ljava/lang/Object;"⟩
def dkwJ9_pollFirst_1 : List UInt8 := [42, 28, 43, 190, 184, 0, 74, 181, 0, 24, 45, 176]
abbrev dktJ9_pollFirst_1 : List UInt8 := dkwJ9_pollFirst_1 ++ []
def dkwJ9_pollFirst_0 : List UInt8 := [42, 180, 0, 3, 89, 76, 42, 180, 0, 24, 89, 61, 184, 0, 103, 78, 45, 198, 0, 17, 43, 28, 1, 83]
abbrev dktJ9_pollFirst_0 : List UInt8 := dkwJ9_pollFirst_0 ++ dktJ9_pollFirst_1
theorem dksJ9_pollFirst_0 : cJ9_pollFirst.data.toList.drop 0 = dktJ9_pollFirst_0 := by decide +kernel
theorem dksJ9_pollFirst_1 : cJ9_pollFirst.data.toList.drop 24 = dktJ9_pollFirst_1 := dk_seg dksJ9_pollFirst_0 24 rfl rfl
theorem dJ9_pollFirst_0 : decode cJ9_pollFirst 0 = .ok (.aload_n 0, 1) := dk_42 (dk_at dksJ9_pollFirst_0 0 rfl rfl)
theorem dJ9_pollFirst_1 : decode cJ9_pollFirst 1 = .ok (.getfield 3, 3) := dk_180 0 3 (dk_at dksJ9_pollFirst_0 1 rfl rfl)
theorem dJ9_pollFirst_4 : decode cJ9_pollFirst 4 = .ok (.dup, 1) := dk_89 (dk_at dksJ9_pollFirst_0 4 rfl rfl)
theorem dJ9_pollFirst_5 : decode cJ9_pollFirst 5 = .ok (.astore_n 1, 1) := dk_76 (dk_at dksJ9_pollFirst_0 5 rfl rfl)
theorem dJ9_pollFirst_6 : decode cJ9_pollFirst 6 = .ok (.aload_n 0, 1) := dk_42 (dk_at dksJ9_pollFirst_0 6 rfl rfl)
theorem dJ9_pollFirst_7 : decode cJ9_pollFirst 7 = .ok (.getfield 24, 3) := dk_180 0 24 (dk_at dksJ9_pollFirst_0 7 rfl rfl)
theorem dJ9_pollFirst_10 : decode cJ9_pollFirst 10 = .ok (.dup, 1) := dk_89 (dk_at dksJ9_pollFirst_0 10 rfl rfl)
theorem dJ9_pollFirst_11 : decode cJ9_pollFirst 11 = .ok (.istore_n 2, 1) := dk_61 (dk_at dksJ9_pollFirst_0 11 rfl rfl)
theorem dJ9_pollFirst_12 : decode cJ9_pollFirst 12 = .ok (.invokestatic 103, 3) := dk_184 0 103 (dk_at dksJ9_pollFirst_0 12 rfl rfl)
theorem dJ9_pollFirst_15 : decode cJ9_pollFirst 15 = .ok (.astore_n 3, 1) := dk_78 (dk_at dksJ9_pollFirst_0 15 rfl rfl)
theorem dJ9_pollFirst_16 : decode cJ9_pollFirst 16 = .ok (.aload_n 3, 1) := dk_45 (dk_at dksJ9_pollFirst_0 16 rfl rfl)
theorem dJ9_pollFirst_17 : decode cJ9_pollFirst 17 = .ok (.ifnull 17, 3) := dk_198 0 17 (dk_at dksJ9_pollFirst_0 17 rfl rfl)
theorem dJ9_pollFirst_20 : decode cJ9_pollFirst 20 = .ok (.aload_n 1, 1) := dk_43 (dk_at dksJ9_pollFirst_0 20 rfl rfl)
theorem dJ9_pollFirst_21 : decode cJ9_pollFirst 21 = .ok (.iload_n 2, 1) := dk_28 (dk_at dksJ9_pollFirst_0 21 rfl rfl)
theorem dJ9_pollFirst_22 : decode cJ9_pollFirst 22 = .ok (.aconst_null, 1) := dk_1 (dk_at dksJ9_pollFirst_0 22 rfl rfl)
theorem dJ9_pollFirst_23 : decode cJ9_pollFirst 23 = .ok (.aastore, 1) := dk_83 (dk_at dksJ9_pollFirst_0 23 rfl rfl)
theorem dJ9_pollFirst_24 : decode cJ9_pollFirst 24 = .ok (.aload_n 0, 1) := dk_42 (dk_at dksJ9_pollFirst_1 0 rfl rfl)
theorem dJ9_pollFirst_25 : decode cJ9_pollFirst 25 = .ok (.iload_n 2, 1) := dk_28 (dk_at dksJ9_pollFirst_1 1 rfl rfl)
theorem dJ9_pollFirst_26 : decode cJ9_pollFirst 26 = .ok (.aload_n 1, 1) := dk_43 (dk_at dksJ9_pollFirst_1 2 rfl rfl)
theorem dJ9_pollFirst_27 : decode cJ9_pollFirst 27 = .ok (.arraylength, 1) := dk_190 (dk_at dksJ9_pollFirst_1 3 rfl rfl)
theorem dJ9_pollFirst_28 : decode cJ9_pollFirst 28 = .ok (.invokestatic 74, 3) := dk_184 0 74 (dk_at dksJ9_pollFirst_1 4 rfl rfl)
theorem dJ9_pollFirst_31 : decode cJ9_pollFirst 31 = .ok (.putfield 24, 3) := dk_181 0 24 (dk_at dksJ9_pollFirst_1 7 rfl rfl)
theorem dJ9_pollFirst_34 : decode cJ9_pollFirst 34 = .ok (.aload_n 3, 1) := dk_45 (dk_at dksJ9_pollFirst_1 10 rfl rfl)
theorem dJ9_pollFirst_35 : decode cJ9_pollFirst 35 = .ok (.areturn, 1) := dk_176 (dk_at dksJ9_pollFirst_1 11 rfl rfl)
abbrev cJ9_elementAt : ByteArray := prog_40_method_10_code
def yJ9_elementAt : MethodName := ⟨RJ9, "elementAt", "([Ljava/lang/Object;I)Ljava/lang/Object;"⟩
def dkwJ9_elementAt_0 : List UInt8 := [42, 27, 50, 176]
abbrev dktJ9_elementAt_0 : List UInt8 := dkwJ9_elementAt_0 ++ []
theorem dksJ9_elementAt_0 : cJ9_elementAt.data.toList.drop 0 = dktJ9_elementAt_0 := by decide +kernel
theorem dJ9_elementAt_0 : decode cJ9_elementAt 0 = .ok (.aload_n 0, 1) := dk_42 (dk_at dksJ9_elementAt_0 0 rfl rfl)
theorem dJ9_elementAt_1 : decode cJ9_elementAt 1 = .ok (.iload_n 1, 1) := dk_27 (dk_at dksJ9_elementAt_0 1 rfl rfl)
theorem dJ9_elementAt_2 : decode cJ9_elementAt 2 = .ok (.aaload, 1) := dk_50 (dk_at dksJ9_elementAt_0 2 rfl rfl)
theorem dJ9_elementAt_3 : decode cJ9_elementAt 3 = .ok (.areturn, 1) := dk_176 (dk_at dksJ9_elementAt_0 3 rfl rfl)
abbrev cJ9_isEmpty : ByteArray := prog_40_method_38_code
def yJ9_isEmpty : MethodName := ⟨RJ9, "isEmpty", "()Z"⟩
def dkwJ9_isEmpty_0 : List UInt8 := [42, 180, 0, 24, 42, 180, 0, 20, 160, 0, 7, 4, 167, 0, 4, 3, 172]
abbrev dktJ9_isEmpty_0 : List UInt8 := dkwJ9_isEmpty_0 ++ []
theorem dksJ9_isEmpty_0 : cJ9_isEmpty.data.toList.drop 0 = dktJ9_isEmpty_0 := by decide +kernel
theorem dJ9_isEmpty_0 : decode cJ9_isEmpty 0 = .ok (.aload_n 0, 1) := dk_42 (dk_at dksJ9_isEmpty_0 0 rfl rfl)
theorem dJ9_isEmpty_1 : decode cJ9_isEmpty 1 = .ok (.getfield 24, 3) := dk_180 0 24 (dk_at dksJ9_isEmpty_0 1 rfl rfl)
theorem dJ9_isEmpty_4 : decode cJ9_isEmpty 4 = .ok (.aload_n 0, 1) := dk_42 (dk_at dksJ9_isEmpty_0 4 rfl rfl)
theorem dJ9_isEmpty_5 : decode cJ9_isEmpty 5 = .ok (.getfield 20, 3) := dk_180 0 20 (dk_at dksJ9_isEmpty_0 5 rfl rfl)
theorem dJ9_isEmpty_8 : decode cJ9_isEmpty 8 = .ok (.if_icmp .ne 7, 3) := dk_160 0 7 (dk_at dksJ9_isEmpty_0 8 rfl rfl)
theorem dJ9_isEmpty_11 : decode cJ9_isEmpty 11 = .ok (.iconst 1, 1) := dk_4 (dk_at dksJ9_isEmpty_0 11 rfl rfl)
theorem dJ9_isEmpty_12 : decode cJ9_isEmpty 12 = .ok (.goto 4, 3) := dk_167 0 4 (dk_at dksJ9_isEmpty_0 12 rfl rfl)
theorem dJ9_isEmpty_15 : decode cJ9_isEmpty 15 = .ok (.iconst 0, 1) := dk_3 (dk_at dksJ9_isEmpty_0 15 rfl rfl)
theorem dJ9_isEmpty_16 : decode cJ9_isEmpty 16 = .ok (.ireturn, 1) := dk_172 (dk_at dksJ9_isEmpty_0 16 rfl rfl)
abbrev cJ9_removeLast : ByteArray := prog_40_method_19_code
def yJ9_removeLast : MethodName := ⟨RJ9, "removeLast", "()Ljava/lang/Object;"⟩
def dkwJ9_removeLast_0 : List UInt8 := [42, 182, 0, 100, 76, 43, 199, 0, 11, 187, 0, 97, 89, 183, 0, 99, 191, 43, 176]
abbrev dktJ9_removeLast_0 : List UInt8 := dkwJ9_removeLast_0 ++ []
theorem dksJ9_removeLast_0 : cJ9_removeLast.data.toList.drop 0 = dktJ9_removeLast_0 := by decide +kernel
theorem dJ9_removeLast_0 : decode cJ9_removeLast 0 = .ok (.aload_n 0, 1) := dk_42 (dk_at dksJ9_removeLast_0 0 rfl rfl)
theorem dJ9_removeLast_1 : decode cJ9_removeLast 1 = .ok (.invokevirtual 100, 3) := dk_182 0 100 (dk_at dksJ9_removeLast_0 1 rfl rfl)
theorem dJ9_removeLast_4 : decode cJ9_removeLast 4 = .ok (.astore_n 1, 1) := dk_76 (dk_at dksJ9_removeLast_0 4 rfl rfl)
theorem dJ9_removeLast_5 : decode cJ9_removeLast 5 = .ok (.aload_n 1, 1) := dk_43 (dk_at dksJ9_removeLast_0 5 rfl rfl)
theorem dJ9_removeLast_6 : decode cJ9_removeLast 6 = .ok (.ifnonnull 11, 3) := dk_199 0 11 (dk_at dksJ9_removeLast_0 6 rfl rfl)
theorem dJ9_removeLast_9 : decode cJ9_removeLast 9 = .ok (.new 97, 3) := dk_187 0 97 (dk_at dksJ9_removeLast_0 9 rfl rfl)
theorem dJ9_removeLast_12 : decode cJ9_removeLast 12 = .ok (.dup, 1) := dk_89 (dk_at dksJ9_removeLast_0 12 rfl rfl)
theorem dJ9_removeLast_13 : decode cJ9_removeLast 13 = .ok (.invokespecial 99, 3) := dk_183 0 99 (dk_at dksJ9_removeLast_0 13 rfl rfl)
theorem dJ9_removeLast_16 : decode cJ9_removeLast 16 = .ok (.athrow, 1) := dk_191 (dk_at dksJ9_removeLast_0 16 rfl rfl)
theorem dJ9_removeLast_17 : decode cJ9_removeLast 17 = .ok (.aload_n 1, 1) := dk_43 (dk_at dksJ9_removeLast_0 17 rfl rfl)
theorem dJ9_removeLast_18 : decode cJ9_removeLast 18 = .ok (.areturn, 1) := dk_176 (dk_at dksJ9_removeLast_0 18 rfl rfl)
abbrev cJ9_pollLast : ByteArray := prog_40_method_21_code
def yJ9_pollLast : MethodName := ⟨RJ9, "pollLast", "()Ljava/lang/Object;"⟩
def dkwJ9_pollLast_1 : List UInt8 := [198, 0, 12, 43, 42, 28, 90, 181, 0, 20, 1, 83, 45, 176]
abbrev dktJ9_pollLast_1 : List UInt8 := dkwJ9_pollLast_1 ++ []
def dkwJ9_pollLast_0 : List UInt8 := [42, 180, 0, 3, 89, 76, 42, 180, 0, 20, 43, 190, 184, 0, 68, 89, 61, 184, 0, 103, 78, 45]
abbrev dktJ9_pollLast_0 : List UInt8 := dkwJ9_pollLast_0 ++ dktJ9_pollLast_1
theorem dksJ9_pollLast_0 : cJ9_pollLast.data.toList.drop 0 = dktJ9_pollLast_0 := by decide +kernel
theorem dksJ9_pollLast_1 : cJ9_pollLast.data.toList.drop 22 = dktJ9_pollLast_1 := dk_seg dksJ9_pollLast_0 22 rfl rfl
theorem dJ9_pollLast_0 : decode cJ9_pollLast 0 = .ok (.aload_n 0, 1) := dk_42 (dk_at dksJ9_pollLast_0 0 rfl rfl)
theorem dJ9_pollLast_1 : decode cJ9_pollLast 1 = .ok (.getfield 3, 3) := dk_180 0 3 (dk_at dksJ9_pollLast_0 1 rfl rfl)
theorem dJ9_pollLast_4 : decode cJ9_pollLast 4 = .ok (.dup, 1) := dk_89 (dk_at dksJ9_pollLast_0 4 rfl rfl)
theorem dJ9_pollLast_5 : decode cJ9_pollLast 5 = .ok (.astore_n 1, 1) := dk_76 (dk_at dksJ9_pollLast_0 5 rfl rfl)
theorem dJ9_pollLast_6 : decode cJ9_pollLast 6 = .ok (.aload_n 0, 1) := dk_42 (dk_at dksJ9_pollLast_0 6 rfl rfl)
theorem dJ9_pollLast_7 : decode cJ9_pollLast 7 = .ok (.getfield 20, 3) := dk_180 0 20 (dk_at dksJ9_pollLast_0 7 rfl rfl)
theorem dJ9_pollLast_10 : decode cJ9_pollLast 10 = .ok (.aload_n 1, 1) := dk_43 (dk_at dksJ9_pollLast_0 10 rfl rfl)
theorem dJ9_pollLast_11 : decode cJ9_pollLast 11 = .ok (.arraylength, 1) := dk_190 (dk_at dksJ9_pollLast_0 11 rfl rfl)
theorem dJ9_pollLast_12 : decode cJ9_pollLast 12 = .ok (.invokestatic 68, 3) := dk_184 0 68 (dk_at dksJ9_pollLast_0 12 rfl rfl)
theorem dJ9_pollLast_15 : decode cJ9_pollLast 15 = .ok (.dup, 1) := dk_89 (dk_at dksJ9_pollLast_0 15 rfl rfl)
theorem dJ9_pollLast_16 : decode cJ9_pollLast 16 = .ok (.istore_n 2, 1) := dk_61 (dk_at dksJ9_pollLast_0 16 rfl rfl)
theorem dJ9_pollLast_17 : decode cJ9_pollLast 17 = .ok (.invokestatic 103, 3) := dk_184 0 103 (dk_at dksJ9_pollLast_0 17 rfl rfl)
theorem dJ9_pollLast_20 : decode cJ9_pollLast 20 = .ok (.astore_n 3, 1) := dk_78 (dk_at dksJ9_pollLast_0 20 rfl rfl)
theorem dJ9_pollLast_21 : decode cJ9_pollLast 21 = .ok (.aload_n 3, 1) := dk_45 (dk_at dksJ9_pollLast_0 21 rfl rfl)
theorem dJ9_pollLast_22 : decode cJ9_pollLast 22 = .ok (.ifnull 12, 3) := dk_198 0 12 (dk_at dksJ9_pollLast_1 0 rfl rfl)
theorem dJ9_pollLast_25 : decode cJ9_pollLast 25 = .ok (.aload_n 1, 1) := dk_43 (dk_at dksJ9_pollLast_1 3 rfl rfl)
theorem dJ9_pollLast_26 : decode cJ9_pollLast 26 = .ok (.aload_n 0, 1) := dk_42 (dk_at dksJ9_pollLast_1 4 rfl rfl)
theorem dJ9_pollLast_27 : decode cJ9_pollLast 27 = .ok (.iload_n 2, 1) := dk_28 (dk_at dksJ9_pollLast_1 5 rfl rfl)
theorem dJ9_pollLast_28 : decode cJ9_pollLast 28 = .ok (.dup_x1, 1) := dk_90 (dk_at dksJ9_pollLast_1 6 rfl rfl)
theorem dJ9_pollLast_29 : decode cJ9_pollLast 29 = .ok (.putfield 20, 3) := dk_181 0 20 (dk_at dksJ9_pollLast_1 7 rfl rfl)
theorem dJ9_pollLast_32 : decode cJ9_pollLast 32 = .ok (.aconst_null, 1) := dk_1 (dk_at dksJ9_pollLast_1 10 rfl rfl)
theorem dJ9_pollLast_33 : decode cJ9_pollLast 33 = .ok (.aastore, 1) := dk_83 (dk_at dksJ9_pollLast_1 11 rfl rfl)
theorem dJ9_pollLast_34 : decode cJ9_pollLast 34 = .ok (.aload_n 3, 1) := dk_45 (dk_at dksJ9_pollLast_1 12 rfl rfl)
theorem dJ9_pollLast_35 : decode cJ9_pollLast 35 = .ok (.areturn, 1) := dk_176 (dk_at dksJ9_pollLast_1 13 rfl rfl)
abbrev cJ9_dec : ByteArray := prog_40_method_7_code
def yJ9_dec : MethodName := ⟨RJ9, "dec", "(II)I"⟩
def dkwJ9_dec_0 : List UInt8 := [132, 0, 255, 26, 156, 0, 7, 27, 4, 100, 59, 26, 172]
abbrev dktJ9_dec_0 : List UInt8 := dkwJ9_dec_0 ++ []
theorem dksJ9_dec_0 : cJ9_dec.data.toList.drop 0 = dktJ9_dec_0 := by decide +kernel
theorem dJ9_dec_0 : decode cJ9_dec 0 = .ok (.iinc 0 (-1), 3) := dk_132 0 255 (dk_at dksJ9_dec_0 0 rfl rfl)
theorem dJ9_dec_3 : decode cJ9_dec 3 = .ok (.iload_n 0, 1) := dk_26 (dk_at dksJ9_dec_0 3 rfl rfl)
theorem dJ9_dec_4 : decode cJ9_dec 4 = .ok (.ifCond .ge 7, 3) := dk_156 0 7 (dk_at dksJ9_dec_0 4 rfl rfl)
theorem dJ9_dec_7 : decode cJ9_dec 7 = .ok (.iload_n 1, 1) := dk_27 (dk_at dksJ9_dec_0 7 rfl rfl)
theorem dJ9_dec_8 : decode cJ9_dec 8 = .ok (.iconst 1, 1) := dk_4 (dk_at dksJ9_dec_0 8 rfl rfl)
theorem dJ9_dec_9 : decode cJ9_dec 9 = .ok (.isub, 1) := dk_100 (dk_at dksJ9_dec_0 9 rfl rfl)
theorem dJ9_dec_10 : decode cJ9_dec 10 = .ok (.istore_n 0, 1) := dk_59 (dk_at dksJ9_dec_0 10 rfl rfl)
theorem dJ9_dec_11 : decode cJ9_dec 11 = .ok (.iload_n 0, 1) := dk_26 (dk_at dksJ9_dec_0 11 rfl rfl)
theorem dJ9_dec_12 : decode cJ9_dec 12 = .ok (.ireturn, 1) := dk_172 (dk_at dksJ9_dec_0 12 rfl rfl)
abbrev cJ9_clear : ByteArray := prog_40_method_53_code
def yJ9_clear : MethodName := ⟨RJ9, "clear", "()V"⟩
def dkwJ9_clear_1 : List UInt8 := [181, 0, 24, 177]
abbrev dktJ9_clear_1 : List UInt8 := dkwJ9_clear_1 ++ []
def dkwJ9_clear_0 : List UInt8 := [42, 180, 0, 3, 42, 180, 0, 24, 42, 180, 0, 20, 184, 0, 181, 42, 42, 3, 90, 181, 0, 20]
abbrev dktJ9_clear_0 : List UInt8 := dkwJ9_clear_0 ++ dktJ9_clear_1
theorem dksJ9_clear_0 : cJ9_clear.data.toList.drop 0 = dktJ9_clear_0 := by decide +kernel
theorem dksJ9_clear_1 : cJ9_clear.data.toList.drop 22 = dktJ9_clear_1 := dk_seg dksJ9_clear_0 22 rfl rfl
theorem dJ9_clear_0 : decode cJ9_clear 0 = .ok (.aload_n 0, 1) := dk_42 (dk_at dksJ9_clear_0 0 rfl rfl)
theorem dJ9_clear_1 : decode cJ9_clear 1 = .ok (.getfield 3, 3) := dk_180 0 3 (dk_at dksJ9_clear_0 1 rfl rfl)
theorem dJ9_clear_4 : decode cJ9_clear 4 = .ok (.aload_n 0, 1) := dk_42 (dk_at dksJ9_clear_0 4 rfl rfl)
theorem dJ9_clear_5 : decode cJ9_clear 5 = .ok (.getfield 24, 3) := dk_180 0 24 (dk_at dksJ9_clear_0 5 rfl rfl)
theorem dJ9_clear_8 : decode cJ9_clear 8 = .ok (.aload_n 0, 1) := dk_42 (dk_at dksJ9_clear_0 8 rfl rfl)
theorem dJ9_clear_9 : decode cJ9_clear 9 = .ok (.getfield 20, 3) := dk_180 0 20 (dk_at dksJ9_clear_0 9 rfl rfl)
theorem dJ9_clear_12 : decode cJ9_clear 12 = .ok (.invokestatic 181, 3) := dk_184 0 181 (dk_at dksJ9_clear_0 12 rfl rfl)
theorem dJ9_clear_15 : decode cJ9_clear 15 = .ok (.aload_n 0, 1) := dk_42 (dk_at dksJ9_clear_0 15 rfl rfl)
theorem dJ9_clear_16 : decode cJ9_clear 16 = .ok (.aload_n 0, 1) := dk_42 (dk_at dksJ9_clear_0 16 rfl rfl)
theorem dJ9_clear_17 : decode cJ9_clear 17 = .ok (.iconst 0, 1) := dk_3 (dk_at dksJ9_clear_0 17 rfl rfl)
theorem dJ9_clear_18 : decode cJ9_clear 18 = .ok (.dup_x1, 1) := dk_90 (dk_at dksJ9_clear_0 18 rfl rfl)
theorem dJ9_clear_19 : decode cJ9_clear 19 = .ok (.putfield 20, 3) := dk_181 0 20 (dk_at dksJ9_clear_0 19 rfl rfl)
theorem dJ9_clear_22 : decode cJ9_clear 22 = .ok (.putfield 24, 3) := dk_181 0 24 (dk_at dksJ9_clear_1 0 rfl rfl)
theorem dJ9_clear_25 : decode cJ9_clear 25 = .ok (.return_, 1) := dk_177 (dk_at dksJ9_clear_1 3 rfl rfl)
abbrev cJ9_circularClear : ByteArray := prog_40_method_54_code
def yJ9_circularClear : MethodName := ⟨RJ9, "circularClear", "([Ljava/lang/Object;II)V"⟩
def dkwJ9_circularClear_1 : List UInt8 := [167, 255, 244, 29, 28, 160, 0, 6, 167, 0, 10, 3, 60, 28, 62, 167, 255, 229, 177]
abbrev dktJ9_circularClear_1 : List UInt8 := dkwJ9_circularClear_1 ++ []
def dkwJ9_circularClear_0 : List UInt8 := [27, 28, 163, 0, 7, 28, 167, 0, 5, 42, 190, 62, 27, 29, 162, 0, 13, 42, 27, 1, 83, 132, 1, 1]
abbrev dktJ9_circularClear_0 : List UInt8 := dkwJ9_circularClear_0 ++ dktJ9_circularClear_1
theorem dksJ9_circularClear_0 : cJ9_circularClear.data.toList.drop 0 = dktJ9_circularClear_0 := by decide +kernel
theorem dksJ9_circularClear_1 : cJ9_circularClear.data.toList.drop 24 = dktJ9_circularClear_1 := dk_seg dksJ9_circularClear_0 24 rfl rfl
theorem dJ9_circularClear_0 : decode cJ9_circularClear 0 = .ok (.iload_n 1, 1) := dk_27 (dk_at dksJ9_circularClear_0 0 rfl rfl)
theorem dJ9_circularClear_1 : decode cJ9_circularClear 1 = .ok (.iload_n 2, 1) := dk_28 (dk_at dksJ9_circularClear_0 1 rfl rfl)
theorem dJ9_circularClear_2 : decode cJ9_circularClear 2 = .ok (.if_icmp .gt 7, 3) := dk_163 0 7 (dk_at dksJ9_circularClear_0 2 rfl rfl)
theorem dJ9_circularClear_5 : decode cJ9_circularClear 5 = .ok (.iload_n 2, 1) := dk_28 (dk_at dksJ9_circularClear_0 5 rfl rfl)
theorem dJ9_circularClear_6 : decode cJ9_circularClear 6 = .ok (.goto 5, 3) := dk_167 0 5 (dk_at dksJ9_circularClear_0 6 rfl rfl)
theorem dJ9_circularClear_9 : decode cJ9_circularClear 9 = .ok (.aload_n 0, 1) := dk_42 (dk_at dksJ9_circularClear_0 9 rfl rfl)
theorem dJ9_circularClear_10 : decode cJ9_circularClear 10 = .ok (.arraylength, 1) := dk_190 (dk_at dksJ9_circularClear_0 10 rfl rfl)
theorem dJ9_circularClear_11 : decode cJ9_circularClear 11 = .ok (.istore_n 3, 1) := dk_62 (dk_at dksJ9_circularClear_0 11 rfl rfl)
theorem dJ9_circularClear_12 : decode cJ9_circularClear 12 = .ok (.iload_n 1, 1) := dk_27 (dk_at dksJ9_circularClear_0 12 rfl rfl)
theorem dJ9_circularClear_13 : decode cJ9_circularClear 13 = .ok (.iload_n 3, 1) := dk_29 (dk_at dksJ9_circularClear_0 13 rfl rfl)
theorem dJ9_circularClear_14 : decode cJ9_circularClear 14 = .ok (.if_icmp .ge 13, 3) := dk_162 0 13 (dk_at dksJ9_circularClear_0 14 rfl rfl)
theorem dJ9_circularClear_17 : decode cJ9_circularClear 17 = .ok (.aload_n 0, 1) := dk_42 (dk_at dksJ9_circularClear_0 17 rfl rfl)
theorem dJ9_circularClear_18 : decode cJ9_circularClear 18 = .ok (.iload_n 1, 1) := dk_27 (dk_at dksJ9_circularClear_0 18 rfl rfl)
theorem dJ9_circularClear_19 : decode cJ9_circularClear 19 = .ok (.aconst_null, 1) := dk_1 (dk_at dksJ9_circularClear_0 19 rfl rfl)
theorem dJ9_circularClear_20 : decode cJ9_circularClear 20 = .ok (.aastore, 1) := dk_83 (dk_at dksJ9_circularClear_0 20 rfl rfl)
theorem dJ9_circularClear_21 : decode cJ9_circularClear 21 = .ok (.iinc 1 1, 3) := dk_132 1 1 (dk_at dksJ9_circularClear_0 21 rfl rfl)
theorem dJ9_circularClear_24 : decode cJ9_circularClear 24 = .ok (.goto (-12), 3) := dk_167 255 244 (dk_at dksJ9_circularClear_1 0 rfl rfl)
theorem dJ9_circularClear_27 : decode cJ9_circularClear 27 = .ok (.iload_n 3, 1) := dk_29 (dk_at dksJ9_circularClear_1 3 rfl rfl)
theorem dJ9_circularClear_28 : decode cJ9_circularClear 28 = .ok (.iload_n 2, 1) := dk_28 (dk_at dksJ9_circularClear_1 4 rfl rfl)
theorem dJ9_circularClear_29 : decode cJ9_circularClear 29 = .ok (.if_icmp .ne 6, 3) := dk_160 0 6 (dk_at dksJ9_circularClear_1 5 rfl rfl)
theorem dJ9_circularClear_32 : decode cJ9_circularClear 32 = .ok (.goto 10, 3) := dk_167 0 10 (dk_at dksJ9_circularClear_1 8 rfl rfl)
theorem dJ9_circularClear_35 : decode cJ9_circularClear 35 = .ok (.iconst 0, 1) := dk_3 (dk_at dksJ9_circularClear_1 11 rfl rfl)
theorem dJ9_circularClear_36 : decode cJ9_circularClear 36 = .ok (.istore_n 1, 1) := dk_60 (dk_at dksJ9_circularClear_1 12 rfl rfl)
theorem dJ9_circularClear_37 : decode cJ9_circularClear 37 = .ok (.iload_n 2, 1) := dk_28 (dk_at dksJ9_circularClear_1 13 rfl rfl)
theorem dJ9_circularClear_38 : decode cJ9_circularClear 38 = .ok (.istore_n 3, 1) := dk_62 (dk_at dksJ9_circularClear_1 14 rfl rfl)
theorem dJ9_circularClear_39 : decode cJ9_circularClear 39 = .ok (.goto (-27), 3) := dk_167 255 229 (dk_at dksJ9_circularClear_1 15 rfl rfl)
theorem dJ9_circularClear_42 : decode cJ9_circularClear 42 = .ok (.return_, 1) := dk_177 (dk_at dksJ9_circularClear_1 18 rfl rfl)
theorem q77 : (Jvm.Cond.initialized "java/util/ArrayDeque") ∈ lw_all := lw_g (lw_at lw_m1 14 rfl) rfl
theorem q274 : (Jvm.Cond.selects "java/util/ArrayDeque" ({ cls := "java/lang/Object", name := "getClass", desc := "()Ljava/lang/Class;" } : Jvm.MethodName) ({ cls := "java/lang/Object", name := "getClass", desc := "()Ljava/lang/Class;" } : Jvm.MethodName)) ∈ lw_all := lw_g (lw_at lw_m1 211 rfl) rfl
theorem q354 : (Jvm.Cond.instantiable "java/util/ArrayDeque" (3 : Nat)) ∈ lw_all := lw_g (lw_at lw_m2 51 rfl) rfl
theorem q356 : (Jvm.Cond.instanceMethod ({ cls := "java/util/ArrayDeque", name := "<init>", desc := "()V" } : Jvm.MethodName)) ∈ lw_all := lw_g (lw_at lw_m2 53 rfl) rfl
theorem q357 : (Jvm.Cond.code ({ cls := "java/util/ArrayDeque", name := "<init>", desc := "()V" } : Jvm.MethodName) prog_40_method_3_code (1 : Nat) (Option.none : Option Jvm.ClassFile.FieldType)) ∈ lw_all := lw_g (lw_at lw_m2 54 rfl) rfl
theorem q358 : (Jvm.Cond.methodLink "java/util/ArrayDeque" (42 : Nat) ({ cls := "java/util/AbstractCollection", name := "<init>", desc := "()V" } : Jvm.MethodName)) ∈ lw_all := lw_g (lw_at lw_m2 55 rfl) rfl
theorem q359 : (Jvm.Cond.classLink "java/util/ArrayDeque" (47 : Nat) "java/lang/Object") ∈ lw_all := lw_g (lw_at lw_m2 56 rfl) rfl
theorem q360 : (Jvm.Cond.fieldLink "java/util/ArrayDeque" (3 : Nat) "java/util/ArrayDeque" "elements" "[Ljava/lang/Object;") ∈ lw_all := lw_g (lw_at lw_m2 57 rfl) rfl
theorem q361 : (Jvm.Cond.fieldLink "java/util/ArrayDeque" (24 : Nat) "java/util/ArrayDeque" "head" "I") ∈ lw_all := lw_g (lw_at lw_m2 58 rfl) rfl
theorem q362 : (Jvm.Cond.fieldLink "java/util/ArrayDeque" (20 : Nat) "java/util/ArrayDeque" "tail" "I") ∈ lw_all := lw_g (lw_at lw_m2 59 rfl) rfl
theorem q363 : (Jvm.Cond.lays "java/util/ArrayDeque" "java/util/ArrayDeque" "elements" "[Ljava/lang/Object;") ∈ lw_all := lw_g (lw_at lw_m2 60 rfl) rfl
theorem q364 : (Jvm.Cond.soleField "java/util/ArrayDeque" "elements") ∈ lw_all := lw_g (lw_at lw_m2 61 rfl) rfl
theorem q365 : (Jvm.Cond.lays "java/util/ArrayDeque" "java/util/ArrayDeque" "head" "I") ∈ lw_all := lw_g (lw_at lw_m2 62 rfl) rfl
theorem q366 : (Jvm.Cond.soleField "java/util/ArrayDeque" "head") ∈ lw_all := lw_g (lw_at lw_m2 63 rfl) rfl
theorem q367 : (Jvm.Cond.lays "java/util/ArrayDeque" "java/util/ArrayDeque" "tail" "I") ∈ lw_all := lw_g (lw_at lw_m2 64 rfl) rfl
theorem q368 : (Jvm.Cond.soleField "java/util/ArrayDeque" "tail") ∈ lw_all := lw_g (lw_at lw_m2 65 rfl) rfl
theorem q369 : (Jvm.Cond.superclass "java/util/ArrayDeque" "java/util/AbstractCollection") ∈ lw_all := lw_g (lw_at lw_m2 66 rfl) rfl
theorem q1087 : (Jvm.Cond.instanceMethod ({ cls := "java/util/ArrayDeque", name := "addLast", desc := "(Ljava/lang/Object;)V" } : Jvm.MethodName)) ∈ lw_all := lw_g (lw_at lw_m5 64 rfl) rfl
theorem q1088 : (Jvm.Cond.selects "java/util/ArrayDeque" ({ cls := "java/util/ArrayDeque", name := "addLast", desc := "(Ljava/lang/Object;)V" } : Jvm.MethodName) ({ cls := "java/util/ArrayDeque", name := "addLast", desc := "(Ljava/lang/Object;)V" } : Jvm.MethodName)) ∈ lw_all := lw_g (lw_at lw_m5 65 rfl) rfl
theorem q1089 : (Jvm.Cond.code ({ cls := "java/util/ArrayDeque", name := "addLast", desc := "(Ljava/lang/Object;)V" } : Jvm.MethodName) prog_40_method_13_code (3 : Nat) (Option.none : Option Jvm.ClassFile.FieldType)) ∈ lw_all := lw_g (lw_at lw_m5 66 rfl) rfl
theorem q1090 : (Jvm.Cond.methodLink "java/util/ArrayDeque" (74 : Nat) ({ cls := "java/util/ArrayDeque", name := "inc", desc := "(II)I" } : Jvm.MethodName)) ∈ lw_all := lw_g (lw_at lw_m5 67 rfl) rfl
theorem q1091 : (Jvm.Cond.static ({ cls := "java/util/ArrayDeque", name := "inc", desc := "(II)I" } : Jvm.MethodName)) ∈ lw_all := lw_g (lw_at lw_m5 68 rfl) rfl
theorem q1092 : (Jvm.Cond.code ({ cls := "java/util/ArrayDeque", name := "inc", desc := "(II)I" } : Jvm.MethodName) prog_40_method_6_code (2 : Nat) (Option.some Jvm.ClassFile.FieldType.int)) ∈ lw_all := lw_g (lw_at lw_m5 69 rfl) rfl
theorem q1093 : (Jvm.Cond.methodLink "java/util/ArrayDeque" (71 : Nat) ({ cls := "java/util/ArrayDeque", name := "grow", desc := "(I)V" } : Jvm.MethodName)) ∈ lw_all := lw_g (lw_at lw_m5 70 rfl) rfl
theorem q1094 : (Jvm.Cond.privateMethod ({ cls := "java/util/ArrayDeque", name := "grow", desc := "(I)V" } : Jvm.MethodName)) ∈ lw_tbl := lw_at lw_m5 71 rfl
theorem q1095 : (Jvm.Cond.instanceMethod ({ cls := "java/util/ArrayDeque", name := "grow", desc := "(I)V" } : Jvm.MethodName)) ∈ lw_all := lw_g (lw_at lw_m5 72 rfl) rfl
theorem q1096 : (Jvm.Cond.code ({ cls := "java/util/ArrayDeque", name := "grow", desc := "(I)V" } : Jvm.MethodName) prog_40_method_1_code (9 : Nat) (Option.none : Option Jvm.ClassFile.FieldType)) ∈ lw_all := lw_g (lw_at lw_m5 73 rfl) rfl
theorem q1097 : (Jvm.Cond.constant "java/util/ArrayDeque" (9 : Nat) (2147483639 : Int32)) ∈ lw_all := lw_g (lw_at lw_m5 74 rfl) rfl
theorem q1098 : (Jvm.Cond.methodLink "java/util/ArrayDeque" (10 : Nat) ({ cls := "java/util/ArrayDeque", name := "newCapacity", desc := "(II)I" } : Jvm.MethodName)) ∈ lw_all := lw_g (lw_at lw_m5 75 rfl) rfl
theorem q1099 : (Jvm.Cond.privateMethod ({ cls := "java/util/ArrayDeque", name := "newCapacity", desc := "(II)I" } : Jvm.MethodName)) ∈ lw_tbl := lw_at lw_m5 76 rfl
theorem q1100 : (Jvm.Cond.instanceMethod ({ cls := "java/util/ArrayDeque", name := "newCapacity", desc := "(II)I" } : Jvm.MethodName)) ∈ lw_all := lw_g (lw_at lw_m5 77 rfl) rfl
theorem q1101 : (Jvm.Cond.code ({ cls := "java/util/ArrayDeque", name := "newCapacity", desc := "(II)I" } : Jvm.MethodName) prog_40_method_2_code (5 : Nat) (Option.some Jvm.ClassFile.FieldType.int)) ∈ lw_all := lw_g (lw_at lw_m5 78 rfl) rfl
theorem q1102 : (Jvm.Cond.constant "java/util/ArrayDeque" (41 : Nat) (2147483647 : Int32)) ∈ lw_all := lw_g (lw_at lw_m5 79 rfl) rfl
theorem q1103 : (Jvm.Cond.methodLink "java/util/ArrayDeque" (14 : Nat) ({ cls := "java/util/Arrays", name := "copyOf", desc := "([Ljava/lang/Object;I)[Ljava/lang/Object;" } : Jvm.MethodName)) ∈ lw_all := lw_g (lw_at lw_m5 80 rfl) rfl
theorem q1104 : (Jvm.Cond.methodLink "java/util/ArrayDeque" (27 : Nat) ({ cls := "java/lang/System", name := "arraycopy", desc := "(Ljava/lang/Object;ILjava/lang/Object;II)V" } : Jvm.MethodName)) ∈ lw_all := lw_g (lw_at lw_m5 81 rfl) rfl
theorem q1106 : (Jvm.Cond.instanceMethod ({ cls := "java/util/ArrayDeque", name := "size", desc := "()I" } : Jvm.MethodName)) ∈ lw_all := lw_g (lw_at lw_m5 83 rfl) rfl
theorem q1107 : (Jvm.Cond.selects "java/util/ArrayDeque" ({ cls := "java/util/ArrayDeque", name := "size", desc := "()I" } : Jvm.MethodName) ({ cls := "java/util/ArrayDeque", name := "size", desc := "()I" } : Jvm.MethodName)) ∈ lw_all := lw_g (lw_at lw_m5 84 rfl) rfl
theorem q1108 : (Jvm.Cond.code ({ cls := "java/util/ArrayDeque", name := "size", desc := "()I" } : Jvm.MethodName) prog_40_method_37_code (1 : Nat) (Option.some Jvm.ClassFile.FieldType.int)) ∈ lw_all := lw_g (lw_at lw_m5 85 rfl) rfl
theorem q1109 : (Jvm.Cond.methodLink "java/util/ArrayDeque" (127 : Nat) ({ cls := "java/util/ArrayDeque", name := "sub", desc := "(III)I" } : Jvm.MethodName)) ∈ lw_all := lw_g (lw_at lw_m5 86 rfl) rfl
theorem q1110 : (Jvm.Cond.static ({ cls := "java/util/ArrayDeque", name := "sub", desc := "(III)I" } : Jvm.MethodName)) ∈ lw_all := lw_g (lw_at lw_m5 87 rfl) rfl
theorem q1111 : (Jvm.Cond.code ({ cls := "java/util/ArrayDeque", name := "sub", desc := "(III)I" } : Jvm.MethodName) prog_40_method_9_code (3 : Nat) (Option.some Jvm.ClassFile.FieldType.int)) ∈ lw_all := lw_g (lw_at lw_m5 88 rfl) rfl
theorem q1113 : (Jvm.Cond.instanceMethod ({ cls := "java/util/ArrayDeque", name := "removeFirst", desc := "()Ljava/lang/Object;" } : Jvm.MethodName)) ∈ lw_all := lw_g (lw_at lw_m5 90 rfl) rfl
theorem q1114 : (Jvm.Cond.selects "java/util/ArrayDeque" ({ cls := "java/util/ArrayDeque", name := "removeFirst", desc := "()Ljava/lang/Object;" } : Jvm.MethodName) ({ cls := "java/util/ArrayDeque", name := "removeFirst", desc := "()Ljava/lang/Object;" } : Jvm.MethodName)) ∈ lw_all := lw_g (lw_at lw_m5 91 rfl) rfl
theorem q1115 : (Jvm.Cond.code ({ cls := "java/util/ArrayDeque", name := "removeFirst", desc := "()Ljava/lang/Object;" } : Jvm.MethodName) prog_40_method_18_code (2 : Nat) (Option.some (Jvm.ClassFile.FieldType.object "java/lang/Object"))) ∈ lw_all := lw_g (lw_at lw_m5 92 rfl) rfl
theorem q1116 : (Jvm.Cond.methodLink "java/util/ArrayDeque" (93 : Nat) ({ cls := "java/util/ArrayDeque", name := "pollFirst", desc := "()Ljava/lang/Object;" } : Jvm.MethodName)) ∈ lw_all := lw_g (lw_at lw_m5 93 rfl) rfl
theorem q1117 : (Jvm.Cond.instanceMethod ({ cls := "java/util/ArrayDeque", name := "pollFirst", desc := "()Ljava/lang/Object;" } : Jvm.MethodName)) ∈ lw_all := lw_g (lw_at lw_m5 94 rfl) rfl
theorem q1118 : (Jvm.Cond.selects "java/util/ArrayDeque" ({ cls := "java/util/ArrayDeque", name := "pollFirst", desc := "()Ljava/lang/Object;" } : Jvm.MethodName) ({ cls := "java/util/ArrayDeque", name := "pollFirst", desc := "()Ljava/lang/Object;" } : Jvm.MethodName)) ∈ lw_all := lw_g (lw_at lw_m5 95 rfl) rfl
theorem q1119 : (Jvm.Cond.code ({ cls := "java/util/ArrayDeque", name := "pollFirst", desc := "()Ljava/lang/Object;" } : Jvm.MethodName) prog_40_method_20_code (4 : Nat) (Option.some (Jvm.ClassFile.FieldType.object "java/lang/Object"))) ∈ lw_all := lw_g (lw_at lw_m5 96 rfl) rfl
theorem q1120 : (Jvm.Cond.methodLink "java/util/ArrayDeque" (103 : Nat) ({ cls := "java/util/ArrayDeque", name := "elementAt", desc := "([Ljava/lang/Object;I)Ljava/lang/Object;" } : Jvm.MethodName)) ∈ lw_all := lw_g (lw_at lw_m5 97 rfl) rfl
theorem q1121 : (Jvm.Cond.static ({ cls := "java/util/ArrayDeque", name := "elementAt", desc := "([Ljava/lang/Object;I)Ljava/lang/Object;" } : Jvm.MethodName)) ∈ lw_all := lw_g (lw_at lw_m5 98 rfl) rfl
theorem q1122 : (Jvm.Cond.code ({ cls := "java/util/ArrayDeque", name := "elementAt", desc := "([Ljava/lang/Object;I)Ljava/lang/Object;" } : Jvm.MethodName) prog_40_method_10_code (2 : Nat) (Option.some (Jvm.ClassFile.FieldType.object "java/lang/Object"))) ∈ lw_all := lw_g (lw_at lw_m5 99 rfl) rfl
theorem q1855 : (Jvm.Cond.instanceMethod ({ cls := "java/util/ArrayDeque", name := "isEmpty", desc := "()Z" } : Jvm.MethodName)) ∈ lw_all := lw_g (lw_at lw_m8 112 rfl) rfl
theorem q1856 : (Jvm.Cond.selects "java/util/ArrayDeque" ({ cls := "java/util/ArrayDeque", name := "isEmpty", desc := "()Z" } : Jvm.MethodName) ({ cls := "java/util/ArrayDeque", name := "isEmpty", desc := "()Z" } : Jvm.MethodName)) ∈ lw_all := lw_g (lw_at lw_m8 113 rfl) rfl
theorem q1857 : (Jvm.Cond.code ({ cls := "java/util/ArrayDeque", name := "isEmpty", desc := "()Z" } : Jvm.MethodName) prog_40_method_38_code (1 : Nat) (Option.some Jvm.ClassFile.FieldType.boolean)) ∈ lw_all := lw_g (lw_at lw_m8 114 rfl) rfl
theorem q1859 : (Jvm.Cond.instanceMethod ({ cls := "java/util/ArrayDeque", name := "removeLast", desc := "()Ljava/lang/Object;" } : Jvm.MethodName)) ∈ lw_all := lw_g (lw_at lw_m8 116 rfl) rfl
theorem q1860 : (Jvm.Cond.selects "java/util/ArrayDeque" ({ cls := "java/util/ArrayDeque", name := "removeLast", desc := "()Ljava/lang/Object;" } : Jvm.MethodName) ({ cls := "java/util/ArrayDeque", name := "removeLast", desc := "()Ljava/lang/Object;" } : Jvm.MethodName)) ∈ lw_all := lw_g (lw_at lw_m8 117 rfl) rfl
theorem q1861 : (Jvm.Cond.code ({ cls := "java/util/ArrayDeque", name := "removeLast", desc := "()Ljava/lang/Object;" } : Jvm.MethodName) prog_40_method_19_code (2 : Nat) (Option.some (Jvm.ClassFile.FieldType.object "java/lang/Object"))) ∈ lw_all := lw_g (lw_at lw_m8 118 rfl) rfl
theorem q1862 : (Jvm.Cond.methodLink "java/util/ArrayDeque" (100 : Nat) ({ cls := "java/util/ArrayDeque", name := "pollLast", desc := "()Ljava/lang/Object;" } : Jvm.MethodName)) ∈ lw_all := lw_g (lw_at lw_m8 119 rfl) rfl
theorem q1863 : (Jvm.Cond.instanceMethod ({ cls := "java/util/ArrayDeque", name := "pollLast", desc := "()Ljava/lang/Object;" } : Jvm.MethodName)) ∈ lw_all := lw_g (lw_at lw_m8 120 rfl) rfl
theorem q1864 : (Jvm.Cond.selects "java/util/ArrayDeque" ({ cls := "java/util/ArrayDeque", name := "pollLast", desc := "()Ljava/lang/Object;" } : Jvm.MethodName) ({ cls := "java/util/ArrayDeque", name := "pollLast", desc := "()Ljava/lang/Object;" } : Jvm.MethodName)) ∈ lw_all := lw_g (lw_at lw_m8 121 rfl) rfl
theorem q1865 : (Jvm.Cond.code ({ cls := "java/util/ArrayDeque", name := "pollLast", desc := "()Ljava/lang/Object;" } : Jvm.MethodName) prog_40_method_21_code (4 : Nat) (Option.some (Jvm.ClassFile.FieldType.object "java/lang/Object"))) ∈ lw_all := lw_g (lw_at lw_m8 122 rfl) rfl
theorem q1866 : (Jvm.Cond.methodLink "java/util/ArrayDeque" (68 : Nat) ({ cls := "java/util/ArrayDeque", name := "dec", desc := "(II)I" } : Jvm.MethodName)) ∈ lw_all := lw_g (lw_at lw_m8 123 rfl) rfl
theorem q1867 : (Jvm.Cond.static ({ cls := "java/util/ArrayDeque", name := "dec", desc := "(II)I" } : Jvm.MethodName)) ∈ lw_all := lw_g (lw_at lw_m8 124 rfl) rfl
theorem q1868 : (Jvm.Cond.code ({ cls := "java/util/ArrayDeque", name := "dec", desc := "(II)I" } : Jvm.MethodName) prog_40_method_7_code (2 : Nat) (Option.some Jvm.ClassFile.FieldType.int)) ∈ lw_all := lw_g (lw_at lw_m8 125 rfl) rfl
theorem q1878 : (Jvm.Cond.instanceMethod ({ cls := "java/util/ArrayDeque", name := "clear", desc := "()V" } : Jvm.MethodName)) ∈ lw_all := lw_g (lw_at lw_m8 135 rfl) rfl
theorem q1879 : (Jvm.Cond.selects "java/util/ArrayDeque" ({ cls := "java/util/ArrayDeque", name := "clear", desc := "()V" } : Jvm.MethodName) ({ cls := "java/util/ArrayDeque", name := "clear", desc := "()V" } : Jvm.MethodName)) ∈ lw_all := lw_g (lw_at lw_m8 136 rfl) rfl
theorem q1880 : (Jvm.Cond.code ({ cls := "java/util/ArrayDeque", name := "clear", desc := "()V" } : Jvm.MethodName) prog_40_method_53_code (1 : Nat) (Option.none : Option Jvm.ClassFile.FieldType)) ∈ lw_all := lw_g (lw_at lw_m8 137 rfl) rfl
theorem q1881 : (Jvm.Cond.methodLink "java/util/ArrayDeque" (181 : Nat) ({ cls := "java/util/ArrayDeque", name := "circularClear", desc := "([Ljava/lang/Object;II)V" } : Jvm.MethodName)) ∈ lw_all := lw_g (lw_at lw_m8 138 rfl) rfl
theorem q1882 : (Jvm.Cond.static ({ cls := "java/util/ArrayDeque", name := "circularClear", desc := "([Ljava/lang/Object;II)V" } : Jvm.MethodName)) ∈ lw_all := lw_g (lw_at lw_m8 139 rfl) rfl
theorem q1883 : (Jvm.Cond.code ({ cls := "java/util/ArrayDeque", name := "circularClear", desc := "([Ljava/lang/Object;II)V" } : Jvm.MethodName) prog_40_method_54_code (4 : Nat) (Option.none : Option Jvm.ClassFile.FieldType)) ∈ lw_all := lw_g (lw_at lw_m8 140 rfl) rfl
theorem q2259 : (Jvm.Cond.castable "java/util/ArrayDeque" "java/lang/Object") ∈ lw_tbl := lw_at lw_m10 36 rfl
theorem in_J9 : ∀ w ∈ wsJ90, w ∈ lw_all := lw_in wsJ90 [363, 365, 367] (by decide +kernel) (by decide +kernel)

