/-! BrushSellers -/
set_option maxRecDepth 100000
def RX0 : String := "BrushSellers"
def TX0 : u_T := fun k => match k with
  | 0 => ("BrushSellers", "company", "LBrushSellers$Company;", false)
  | 1 => ("BrushSellers", "saved", "LBrushSellers$Company;", false)
  | 2 => ("BrushSellers", "past", "Ljava/util/ArrayDeque;", true)
  | 3 => ("BrushSellers", "reason", "I", false)
  | 4 => ("BrushSellers", "detail", "I", false)
  | 5 => ("BrushSellers", "text", "Ljava/lang/StringBuilder;", true)
  | _ => ("BrushSellers", "line", "Ljava/lang/String;", false)
def tyX0 : Nat → FieldType := fun k => match k with
  | 0 => .object "BrushSellers$Company"
  | 1 => .object "BrushSellers$Company"
  | 2 => .object "java/util/ArrayDeque"
  | 3 => .int
  | 4 => .int
  | 5 => .object "java/lang/StringBuilder"
  | _ => .object "java/lang/String"
abbrev wsX00 : List Cond := u_ws RX0 TX0 7
theorem nmX0 : ∀ a, a < 7 → ∀ b, b < 7 → a ≠ b → (TX0 a).2.1 ≠ (TX0 b).2.1 := by decide +kernel
theorem tyX0_ok : ∀ k, k < 7 → parseFieldDescriptor (TX0 k).2.2.1 = some (tyX0 k) := by decide +kernel
abbrev cX0_init : ByteArray := prog_1_method_1_code
def yX0_init : MethodName := ⟨RX0, "<init>", "()V"⟩
def dkwX0_init_1 : List UInt8 := [181, 0, 19, 42, 187, 0, 23, 89, 183, 0, 25, 181, 0, 26, 42, 18, 30, 181, 0, 32, 177]
abbrev dktX0_init_1 : List UInt8 := dkwX0_init_1 ++ []
def dkwX0_init_0 : List UInt8 := [42, 183, 0, 1, 42, 187, 0, 7, 89, 183, 0, 9, 181, 0, 10, 42, 187, 0, 16, 89, 183, 0, 18]
abbrev dktX0_init_0 : List UInt8 := dkwX0_init_0 ++ dktX0_init_1
theorem dksX0_init_0 : cX0_init.data.toList.drop 0 = dktX0_init_0 := by decide +kernel
theorem dksX0_init_1 : cX0_init.data.toList.drop 23 = dktX0_init_1 := dk_seg dksX0_init_0 23 rfl rfl
theorem dX0_init_0 : decode cX0_init 0 = .ok (.aload_n 0, 1) := dk_42 (dk_at dksX0_init_0 0 rfl rfl)
theorem dX0_init_1 : decode cX0_init 1 = .ok (.invokespecial 1, 3) := dk_183 0 1 (dk_at dksX0_init_0 1 rfl rfl)
theorem dX0_init_4 : decode cX0_init 4 = .ok (.aload_n 0, 1) := dk_42 (dk_at dksX0_init_0 4 rfl rfl)
theorem dX0_init_5 : decode cX0_init 5 = .ok (.new 7, 3) := dk_187 0 7 (dk_at dksX0_init_0 5 rfl rfl)
theorem dX0_init_8 : decode cX0_init 8 = .ok (.dup, 1) := dk_89 (dk_at dksX0_init_0 8 rfl rfl)
theorem dX0_init_9 : decode cX0_init 9 = .ok (.invokespecial 9, 3) := dk_183 0 9 (dk_at dksX0_init_0 9 rfl rfl)
theorem dX0_init_12 : decode cX0_init 12 = .ok (.putfield 10, 3) := dk_181 0 10 (dk_at dksX0_init_0 12 rfl rfl)
theorem dX0_init_15 : decode cX0_init 15 = .ok (.aload_n 0, 1) := dk_42 (dk_at dksX0_init_0 15 rfl rfl)
theorem dX0_init_16 : decode cX0_init 16 = .ok (.new 16, 3) := dk_187 0 16 (dk_at dksX0_init_0 16 rfl rfl)
theorem dX0_init_19 : decode cX0_init 19 = .ok (.dup, 1) := dk_89 (dk_at dksX0_init_0 19 rfl rfl)
theorem dX0_init_20 : decode cX0_init 20 = .ok (.invokespecial 18, 3) := dk_183 0 18 (dk_at dksX0_init_0 20 rfl rfl)
theorem dX0_init_23 : decode cX0_init 23 = .ok (.putfield 19, 3) := dk_181 0 19 (dk_at dksX0_init_1 0 rfl rfl)
theorem dX0_init_26 : decode cX0_init 26 = .ok (.aload_n 0, 1) := dk_42 (dk_at dksX0_init_1 3 rfl rfl)
theorem dX0_init_27 : decode cX0_init 27 = .ok (.new 23, 3) := dk_187 0 23 (dk_at dksX0_init_1 4 rfl rfl)
theorem dX0_init_30 : decode cX0_init 30 = .ok (.dup, 1) := dk_89 (dk_at dksX0_init_1 7 rfl rfl)
theorem dX0_init_31 : decode cX0_init 31 = .ok (.invokespecial 25, 3) := dk_183 0 25 (dk_at dksX0_init_1 8 rfl rfl)
theorem dX0_init_34 : decode cX0_init 34 = .ok (.putfield 26, 3) := dk_181 0 26 (dk_at dksX0_init_1 11 rfl rfl)
theorem dX0_init_37 : decode cX0_init 37 = .ok (.aload_n 0, 1) := dk_42 (dk_at dksX0_init_1 14 rfl rfl)
theorem dX0_init_38 : decode cX0_init 38 = .ok (.ldc 30, 2) := dk_18 30 (dk_at dksX0_init_1 15 rfl rfl)
theorem dX0_init_40 : decode cX0_init 40 = .ok (.putfield 32, 3) := dk_181 0 32 (dk_at dksX0_init_1 17 rfl rfl)
theorem dX0_init_43 : decode cX0_init 43 = .ok (.return_, 1) := dk_177 (dk_at dksX0_init_1 20 rfl rfl)
abbrev cX0_seller : ByteArray := prog_1_method_9_code
def yX0_seller : MethodName := ⟨RX0, "seller", "(I)I"⟩
def dkwX0_seller_1 : List UInt8 := [180, 0, 10, 27, 182, 0, 70, 182, 0, 74, 172, 78, 42, 45, 182, 0, 78, 172]
abbrev dktX0_seller_1 : List UInt8 := dkwX0_seller_1 ++ []
def dkwX0_seller_0 : List UInt8 := [27, 3, 16, 9, 184, 0, 36, 154, 0, 6, 16, 244, 172, 42, 180, 0, 10, 182, 0, 66, 77, 42, 44, 42]
abbrev dktX0_seller_0 : List UInt8 := dkwX0_seller_0 ++ dktX0_seller_1
theorem dksX0_seller_0 : cX0_seller.data.toList.drop 0 = dktX0_seller_0 := by decide +kernel
theorem dksX0_seller_1 : cX0_seller.data.toList.drop 24 = dktX0_seller_1 := dk_seg dksX0_seller_0 24 rfl rfl
theorem dX0_seller_0 : decode cX0_seller 0 = .ok (.iload_n 1, 1) := dk_27 (dk_at dksX0_seller_0 0 rfl rfl)
theorem dX0_seller_1 : decode cX0_seller 1 = .ok (.iconst 0, 1) := dk_3 (dk_at dksX0_seller_0 1 rfl rfl)
theorem dX0_seller_2 : decode cX0_seller 2 = .ok (.bipush 9, 2) := dk_16 9 (dk_at dksX0_seller_0 2 rfl rfl)
theorem dX0_seller_4 : decode cX0_seller 4 = .ok (.invokestatic 36, 3) := dk_184 0 36 (dk_at dksX0_seller_0 4 rfl rfl)
theorem dX0_seller_7 : decode cX0_seller 7 = .ok (.ifCond .ne 6, 3) := dk_154 0 6 (dk_at dksX0_seller_0 7 rfl rfl)
theorem dX0_seller_10 : decode cX0_seller 10 = .ok (.bipush (-12), 2) := dk_16 244 (dk_at dksX0_seller_0 10 rfl rfl)
theorem dX0_seller_12 : decode cX0_seller 12 = .ok (.ireturn, 1) := dk_172 (dk_at dksX0_seller_0 12 rfl rfl)
theorem dX0_seller_13 : decode cX0_seller 13 = .ok (.aload_n 0, 1) := dk_42 (dk_at dksX0_seller_0 13 rfl rfl)
theorem dX0_seller_14 : decode cX0_seller 14 = .ok (.getfield 10, 3) := dk_180 0 10 (dk_at dksX0_seller_0 14 rfl rfl)
theorem dX0_seller_17 : decode cX0_seller 17 = .ok (.invokevirtual 66, 3) := dk_182 0 66 (dk_at dksX0_seller_0 17 rfl rfl)
theorem dX0_seller_20 : decode cX0_seller 20 = .ok (.astore_n 2, 1) := dk_77 (dk_at dksX0_seller_0 20 rfl rfl)
theorem dX0_seller_21 : decode cX0_seller 21 = .ok (.aload_n 0, 1) := dk_42 (dk_at dksX0_seller_0 21 rfl rfl)
theorem dX0_seller_22 : decode cX0_seller 22 = .ok (.aload_n 2, 1) := dk_44 (dk_at dksX0_seller_0 22 rfl rfl)
theorem dX0_seller_23 : decode cX0_seller 23 = .ok (.aload_n 0, 1) := dk_42 (dk_at dksX0_seller_0 23 rfl rfl)
theorem dX0_seller_24 : decode cX0_seller 24 = .ok (.getfield 10, 3) := dk_180 0 10 (dk_at dksX0_seller_1 0 rfl rfl)
theorem dX0_seller_27 : decode cX0_seller 27 = .ok (.iload_n 1, 1) := dk_27 (dk_at dksX0_seller_1 3 rfl rfl)
theorem dX0_seller_28 : decode cX0_seller 28 = .ok (.invokevirtual 70, 3) := dk_182 0 70 (dk_at dksX0_seller_1 4 rfl rfl)
theorem dX0_seller_31 : decode cX0_seller 31 = .ok (.invokevirtual 74, 3) := dk_182 0 74 (dk_at dksX0_seller_1 7 rfl rfl)
theorem dX0_seller_34 : decode cX0_seller 34 = .ok (.ireturn, 1) := dk_172 (dk_at dksX0_seller_1 10 rfl rfl)
theorem dX0_seller_35 : decode cX0_seller 35 = .ok (.astore_n 3, 1) := dk_78 (dk_at dksX0_seller_1 11 rfl rfl)
theorem dX0_seller_36 : decode cX0_seller 36 = .ok (.aload_n 0, 1) := dk_42 (dk_at dksX0_seller_1 12 rfl rfl)
theorem dX0_seller_37 : decode cX0_seller 37 = .ok (.aload_n 3, 1) := dk_45 (dk_at dksX0_seller_1 13 rfl rfl)
theorem dX0_seller_38 : decode cX0_seller 38 = .ok (.invokevirtual 78, 3) := dk_182 0 78 (dk_at dksX0_seller_1 14 rfl rfl)
theorem dX0_seller_41 : decode cX0_seller 41 = .ok (.ireturn, 1) := dk_172 (dk_at dksX0_seller_1 17 rfl rfl)
abbrev cX0_isIn : ByteArray := prog_1_method_2_code
def yX0_isIn : MethodName := ⟨RX0, "isIn", "(III)Z"⟩
def dkwX0_isIn_0 : List UInt8 := [26, 27, 161, 0, 12, 26, 28, 163, 0, 7, 4, 167, 0, 4, 3, 172]
abbrev dktX0_isIn_0 : List UInt8 := dkwX0_isIn_0 ++ []
theorem dksX0_isIn_0 : cX0_isIn.data.toList.drop 0 = dktX0_isIn_0 := by decide +kernel
theorem dX0_isIn_0 : decode cX0_isIn 0 = .ok (.iload_n 0, 1) := dk_26 (dk_at dksX0_isIn_0 0 rfl rfl)
theorem dX0_isIn_1 : decode cX0_isIn 1 = .ok (.iload_n 1, 1) := dk_27 (dk_at dksX0_isIn_0 1 rfl rfl)
theorem dX0_isIn_2 : decode cX0_isIn 2 = .ok (.if_icmp .lt 12, 3) := dk_161 0 12 (dk_at dksX0_isIn_0 2 rfl rfl)
theorem dX0_isIn_5 : decode cX0_isIn 5 = .ok (.iload_n 0, 1) := dk_26 (dk_at dksX0_isIn_0 5 rfl rfl)
theorem dX0_isIn_6 : decode cX0_isIn 6 = .ok (.iload_n 2, 1) := dk_28 (dk_at dksX0_isIn_0 6 rfl rfl)
theorem dX0_isIn_7 : decode cX0_isIn 7 = .ok (.if_icmp .gt 7, 3) := dk_163 0 7 (dk_at dksX0_isIn_0 7 rfl rfl)
theorem dX0_isIn_10 : decode cX0_isIn 10 = .ok (.iconst 1, 1) := dk_4 (dk_at dksX0_isIn_0 10 rfl rfl)
theorem dX0_isIn_11 : decode cX0_isIn 11 = .ok (.goto 4, 3) := dk_167 0 4 (dk_at dksX0_isIn_0 11 rfl rfl)
theorem dX0_isIn_14 : decode cX0_isIn 14 = .ok (.iconst 0, 1) := dk_3 (dk_at dksX0_isIn_0 14 rfl rfl)
theorem dX0_isIn_15 : decode cX0_isIn 15 = .ok (.ireturn, 1) := dk_172 (dk_at dksX0_isIn_0 15 rfl rfl)
abbrev cX0_refuse : ByteArray := prog_1_method_6_code
def yX0_refuse : MethodName := ⟨RX0, "refuse", "(ZII)V"⟩
def dkwX0_refuse_0 : List UInt8 := [26, 153, 0, 13, 187, 0, 40, 89, 27, 28, 183, 0, 42, 191, 177]
abbrev dktX0_refuse_0 : List UInt8 := dkwX0_refuse_0 ++ []
theorem dksX0_refuse_0 : cX0_refuse.data.toList.drop 0 = dktX0_refuse_0 := by decide +kernel
theorem dX0_refuse_0 : decode cX0_refuse 0 = .ok (.iload_n 0, 1) := dk_26 (dk_at dksX0_refuse_0 0 rfl rfl)
theorem dX0_refuse_1 : decode cX0_refuse 1 = .ok (.ifCond .eq 13, 3) := dk_153 0 13 (dk_at dksX0_refuse_0 1 rfl rfl)
theorem dX0_refuse_4 : decode cX0_refuse 4 = .ok (.new 40, 3) := dk_187 0 40 (dk_at dksX0_refuse_0 4 rfl rfl)
theorem dX0_refuse_7 : decode cX0_refuse 7 = .ok (.dup, 1) := dk_89 (dk_at dksX0_refuse_0 7 rfl rfl)
theorem dX0_refuse_8 : decode cX0_refuse 8 = .ok (.iload_n 1, 1) := dk_27 (dk_at dksX0_refuse_0 8 rfl rfl)
theorem dX0_refuse_9 : decode cX0_refuse 9 = .ok (.iload_n 2, 1) := dk_28 (dk_at dksX0_refuse_0 9 rfl rfl)
theorem dX0_refuse_10 : decode cX0_refuse 10 = .ok (.invokespecial 42, 3) := dk_183 0 42 (dk_at dksX0_refuse_0 10 rfl rfl)
theorem dX0_refuse_13 : decode cX0_refuse 13 = .ok (.athrow, 1) := dk_191 (dk_at dksX0_refuse_0 13 rfl rfl)
theorem dX0_refuse_14 : decode cX0_refuse 14 = .ok (.return_, 1) := dk_177 (dk_at dksX0_refuse_0 14 rfl rfl)
abbrev cX0_changed : ByteArray := prog_1_method_8_code
def yX0_changed : MethodName := ⟨RX0, "changed", "(LBrushSellers$Company;I)I"⟩
def dkwX0_changed_1 : List UInt8 := [182, 0, 62, 87, 28, 172]
abbrev dktX0_changed_1 : List UInt8 := dkwX0_changed_1 ++ []
def dkwX0_changed_0 : List UInt8 := [42, 180, 0, 19, 43, 182, 0, 54, 42, 180, 0, 19, 182, 0, 58, 16, 8, 164, 0, 11, 42, 180, 0, 19]
abbrev dktX0_changed_0 : List UInt8 := dkwX0_changed_0 ++ dktX0_changed_1
theorem dksX0_changed_0 : cX0_changed.data.toList.drop 0 = dktX0_changed_0 := by decide +kernel
theorem dksX0_changed_1 : cX0_changed.data.toList.drop 24 = dktX0_changed_1 := dk_seg dksX0_changed_0 24 rfl rfl
theorem dX0_changed_0 : decode cX0_changed 0 = .ok (.aload_n 0, 1) := dk_42 (dk_at dksX0_changed_0 0 rfl rfl)
theorem dX0_changed_1 : decode cX0_changed 1 = .ok (.getfield 19, 3) := dk_180 0 19 (dk_at dksX0_changed_0 1 rfl rfl)
theorem dX0_changed_4 : decode cX0_changed 4 = .ok (.aload_n 1, 1) := dk_43 (dk_at dksX0_changed_0 4 rfl rfl)
theorem dX0_changed_5 : decode cX0_changed 5 = .ok (.invokevirtual 54, 3) := dk_182 0 54 (dk_at dksX0_changed_0 5 rfl rfl)
theorem dX0_changed_8 : decode cX0_changed 8 = .ok (.aload_n 0, 1) := dk_42 (dk_at dksX0_changed_0 8 rfl rfl)
theorem dX0_changed_9 : decode cX0_changed 9 = .ok (.getfield 19, 3) := dk_180 0 19 (dk_at dksX0_changed_0 9 rfl rfl)
theorem dX0_changed_12 : decode cX0_changed 12 = .ok (.invokevirtual 58, 3) := dk_182 0 58 (dk_at dksX0_changed_0 12 rfl rfl)
theorem dX0_changed_15 : decode cX0_changed 15 = .ok (.bipush 8, 2) := dk_16 8 (dk_at dksX0_changed_0 15 rfl rfl)
theorem dX0_changed_17 : decode cX0_changed 17 = .ok (.if_icmp .le 11, 3) := dk_164 0 11 (dk_at dksX0_changed_0 17 rfl rfl)
theorem dX0_changed_20 : decode cX0_changed 20 = .ok (.aload_n 0, 1) := dk_42 (dk_at dksX0_changed_0 20 rfl rfl)
theorem dX0_changed_21 : decode cX0_changed 21 = .ok (.getfield 19, 3) := dk_180 0 19 (dk_at dksX0_changed_0 21 rfl rfl)
theorem dX0_changed_24 : decode cX0_changed 24 = .ok (.invokevirtual 62, 3) := dk_182 0 62 (dk_at dksX0_changed_1 0 rfl rfl)
theorem dX0_changed_27 : decode cX0_changed 27 = .ok (.pop, 1) := dk_87 (dk_at dksX0_changed_1 3 rfl rfl)
theorem dX0_changed_28 : decode cX0_changed 28 = .ok (.iload_n 2, 1) := dk_28 (dk_at dksX0_changed_1 4 rfl rfl)
theorem dX0_changed_29 : decode cX0_changed 29 = .ok (.ireturn, 1) := dk_172 (dk_at dksX0_changed_1 5 rfl rfl)
abbrev cX0_refused : ByteArray := prog_1_method_7_code
def yX0_refused : MethodName := ⟨RX0, "refused", "(LBrushSellers$Refused;)I"⟩
def dkwX0_refused_0 : List UInt8 := [42, 43, 180, 0, 45, 181, 0, 49, 42, 43, 180, 0, 50, 181, 0, 53, 16, 242, 172]
abbrev dktX0_refused_0 : List UInt8 := dkwX0_refused_0 ++ []
theorem dksX0_refused_0 : cX0_refused.data.toList.drop 0 = dktX0_refused_0 := by decide +kernel
theorem dX0_refused_0 : decode cX0_refused 0 = .ok (.aload_n 0, 1) := dk_42 (dk_at dksX0_refused_0 0 rfl rfl)
theorem dX0_refused_1 : decode cX0_refused 1 = .ok (.aload_n 1, 1) := dk_43 (dk_at dksX0_refused_0 1 rfl rfl)
theorem dX0_refused_2 : decode cX0_refused 2 = .ok (.getfield 45, 3) := dk_180 0 45 (dk_at dksX0_refused_0 2 rfl rfl)
theorem dX0_refused_5 : decode cX0_refused 5 = .ok (.putfield 49, 3) := dk_181 0 49 (dk_at dksX0_refused_0 5 rfl rfl)
theorem dX0_refused_8 : decode cX0_refused 8 = .ok (.aload_n 0, 1) := dk_42 (dk_at dksX0_refused_0 8 rfl rfl)
theorem dX0_refused_9 : decode cX0_refused 9 = .ok (.aload_n 1, 1) := dk_43 (dk_at dksX0_refused_0 9 rfl rfl)
theorem dX0_refused_10 : decode cX0_refused 10 = .ok (.getfield 50, 3) := dk_180 0 50 (dk_at dksX0_refused_0 10 rfl rfl)
theorem dX0_refused_13 : decode cX0_refused 13 = .ok (.putfield 53, 3) := dk_181 0 53 (dk_at dksX0_refused_0 13 rfl rfl)
theorem dX0_refused_16 : decode cX0_refused 16 = .ok (.bipush (-14), 2) := dk_16 242 (dk_at dksX0_refused_0 16 rfl rfl)
theorem dX0_refused_18 : decode cX0_refused 18 = .ok (.ireturn, 1) := dk_172 (dk_at dksX0_refused_0 18 rfl rfl)
abbrev cX0_dog : ByteArray := prog_1_method_10_code
def yX0_dog : MethodName := ⟨RX0, "dog", "(II)I"⟩
def dkwX0_dog_2 : List UInt8 := [42, 25, 4, 182, 0, 78, 172]
abbrev dktX0_dog_2 : List UInt8 := dkwX0_dog_2 ++ []
def dkwX0_dog_1 : List UInt8 := [180, 0, 10, 182, 0, 66, 78, 42, 45, 42, 180, 0, 10, 27, 28, 182, 0, 86, 182, 0, 74, 172, 58, 4]
abbrev dktX0_dog_1 : List UInt8 := dkwX0_dog_1 ++ dktX0_dog_2
def dkwX0_dog_0 : List UInt8 := [27, 184, 0, 82, 154, 0, 6, 16, 245, 172, 28, 3, 16, 9, 184, 0, 36, 154, 0, 6, 16, 244, 172, 42]
abbrev dktX0_dog_0 : List UInt8 := dkwX0_dog_0 ++ dktX0_dog_1
theorem dksX0_dog_0 : cX0_dog.data.toList.drop 0 = dktX0_dog_0 := by decide +kernel
theorem dksX0_dog_1 : cX0_dog.data.toList.drop 24 = dktX0_dog_1 := dk_seg dksX0_dog_0 24 rfl rfl
theorem dksX0_dog_2 : cX0_dog.data.toList.drop 48 = dktX0_dog_2 := dk_seg dksX0_dog_1 24 rfl rfl
theorem dX0_dog_0 : decode cX0_dog 0 = .ok (.iload_n 1, 1) := dk_27 (dk_at dksX0_dog_0 0 rfl rfl)
theorem dX0_dog_1 : decode cX0_dog 1 = .ok (.invokestatic 82, 3) := dk_184 0 82 (dk_at dksX0_dog_0 1 rfl rfl)
theorem dX0_dog_4 : decode cX0_dog 4 = .ok (.ifCond .ne 6, 3) := dk_154 0 6 (dk_at dksX0_dog_0 4 rfl rfl)
theorem dX0_dog_7 : decode cX0_dog 7 = .ok (.bipush (-11), 2) := dk_16 245 (dk_at dksX0_dog_0 7 rfl rfl)
theorem dX0_dog_9 : decode cX0_dog 9 = .ok (.ireturn, 1) := dk_172 (dk_at dksX0_dog_0 9 rfl rfl)
theorem dX0_dog_10 : decode cX0_dog 10 = .ok (.iload_n 2, 1) := dk_28 (dk_at dksX0_dog_0 10 rfl rfl)
theorem dX0_dog_11 : decode cX0_dog 11 = .ok (.iconst 0, 1) := dk_3 (dk_at dksX0_dog_0 11 rfl rfl)
theorem dX0_dog_12 : decode cX0_dog 12 = .ok (.bipush 9, 2) := dk_16 9 (dk_at dksX0_dog_0 12 rfl rfl)
theorem dX0_dog_14 : decode cX0_dog 14 = .ok (.invokestatic 36, 3) := dk_184 0 36 (dk_at dksX0_dog_0 14 rfl rfl)
theorem dX0_dog_17 : decode cX0_dog 17 = .ok (.ifCond .ne 6, 3) := dk_154 0 6 (dk_at dksX0_dog_0 17 rfl rfl)
theorem dX0_dog_20 : decode cX0_dog 20 = .ok (.bipush (-12), 2) := dk_16 244 (dk_at dksX0_dog_0 20 rfl rfl)
theorem dX0_dog_22 : decode cX0_dog 22 = .ok (.ireturn, 1) := dk_172 (dk_at dksX0_dog_0 22 rfl rfl)
theorem dX0_dog_23 : decode cX0_dog 23 = .ok (.aload_n 0, 1) := dk_42 (dk_at dksX0_dog_0 23 rfl rfl)
theorem dX0_dog_24 : decode cX0_dog 24 = .ok (.getfield 10, 3) := dk_180 0 10 (dk_at dksX0_dog_1 0 rfl rfl)
theorem dX0_dog_27 : decode cX0_dog 27 = .ok (.invokevirtual 66, 3) := dk_182 0 66 (dk_at dksX0_dog_1 3 rfl rfl)
theorem dX0_dog_30 : decode cX0_dog 30 = .ok (.astore_n 3, 1) := dk_78 (dk_at dksX0_dog_1 6 rfl rfl)
theorem dX0_dog_31 : decode cX0_dog 31 = .ok (.aload_n 0, 1) := dk_42 (dk_at dksX0_dog_1 7 rfl rfl)
theorem dX0_dog_32 : decode cX0_dog 32 = .ok (.aload_n 3, 1) := dk_45 (dk_at dksX0_dog_1 8 rfl rfl)
theorem dX0_dog_33 : decode cX0_dog 33 = .ok (.aload_n 0, 1) := dk_42 (dk_at dksX0_dog_1 9 rfl rfl)
theorem dX0_dog_34 : decode cX0_dog 34 = .ok (.getfield 10, 3) := dk_180 0 10 (dk_at dksX0_dog_1 10 rfl rfl)
theorem dX0_dog_37 : decode cX0_dog 37 = .ok (.iload_n 1, 1) := dk_27 (dk_at dksX0_dog_1 13 rfl rfl)
theorem dX0_dog_38 : decode cX0_dog 38 = .ok (.iload_n 2, 1) := dk_28 (dk_at dksX0_dog_1 14 rfl rfl)
theorem dX0_dog_39 : decode cX0_dog 39 = .ok (.invokevirtual 86, 3) := dk_182 0 86 (dk_at dksX0_dog_1 15 rfl rfl)
theorem dX0_dog_42 : decode cX0_dog 42 = .ok (.invokevirtual 74, 3) := dk_182 0 74 (dk_at dksX0_dog_1 18 rfl rfl)
theorem dX0_dog_45 : decode cX0_dog 45 = .ok (.ireturn, 1) := dk_172 (dk_at dksX0_dog_1 21 rfl rfl)
theorem dX0_dog_46 : decode cX0_dog 46 = .ok (.astore 4, 2) := dk_58 4 (dk_at dksX0_dog_1 22 rfl rfl)
theorem dX0_dog_48 : decode cX0_dog 48 = .ok (.aload_n 0, 1) := dk_42 (dk_at dksX0_dog_2 0 rfl rfl)
theorem dX0_dog_49 : decode cX0_dog 49 = .ok (.aload 4, 2) := dk_25 4 (dk_at dksX0_dog_2 1 rfl rfl)
theorem dX0_dog_51 : decode cX0_dog 51 = .ok (.invokevirtual 78, 3) := dk_182 0 78 (dk_at dksX0_dog_2 3 rfl rfl)
theorem dX0_dog_54 : decode cX0_dog 54 = .ok (.ireturn, 1) := dk_172 (dk_at dksX0_dog_2 6 rfl rfl)
abbrev cX0_isHouse : ByteArray := prog_1_method_3_code
def yX0_isHouse : MethodName := ⟨RX0, "isHouse", "(I)Z"⟩
def dkwX0_isHouse_0 : List UInt8 := [26, 3, 16, 19, 184, 0, 36, 172]
abbrev dktX0_isHouse_0 : List UInt8 := dkwX0_isHouse_0 ++ []
theorem dksX0_isHouse_0 : cX0_isHouse.data.toList.drop 0 = dktX0_isHouse_0 := by decide +kernel
theorem dX0_isHouse_0 : decode cX0_isHouse 0 = .ok (.iload_n 0, 1) := dk_26 (dk_at dksX0_isHouse_0 0 rfl rfl)
theorem dX0_isHouse_1 : decode cX0_isHouse 1 = .ok (.iconst 0, 1) := dk_3 (dk_at dksX0_isHouse_0 1 rfl rfl)
theorem dX0_isHouse_2 : decode cX0_isHouse 2 = .ok (.bipush 19, 2) := dk_16 19 (dk_at dksX0_isHouse_0 2 rfl rfl)
theorem dX0_isHouse_4 : decode cX0_isHouse 4 = .ok (.invokestatic 36, 3) := dk_184 0 36 (dk_at dksX0_isHouse_0 4 rfl rfl)
theorem dX0_isHouse_7 : decode cX0_isHouse 7 = .ok (.ireturn, 1) := dk_172 (dk_at dksX0_isHouse_0 7 rfl rfl)
abbrev cX0_make : ByteArray := prog_1_method_11_code
def yX0_make : MethodName := ⟨RX0, "make", "(II)I"⟩
def dkwX0_make_2 : List UInt8 := [42, 25, 4, 182, 0, 78, 172]
abbrev dktX0_make_2 : List UInt8 := dkwX0_make_2 ++ []
def dkwX0_make_1 : List UInt8 := [180, 0, 10, 182, 0, 66, 78, 42, 45, 42, 180, 0, 10, 27, 28, 182, 0, 93, 182, 0, 74, 172, 58, 4]
abbrev dktX0_make_1 : List UInt8 := dkwX0_make_1 ++ dktX0_make_2
def dkwX0_make_0 : List UInt8 := [27, 184, 0, 90, 154, 0, 6, 16, 245, 172, 28, 4, 16, 50, 184, 0, 36, 154, 0, 6, 16, 244, 172, 42]
abbrev dktX0_make_0 : List UInt8 := dkwX0_make_0 ++ dktX0_make_1
theorem dksX0_make_0 : cX0_make.data.toList.drop 0 = dktX0_make_0 := by decide +kernel
theorem dksX0_make_1 : cX0_make.data.toList.drop 24 = dktX0_make_1 := dk_seg dksX0_make_0 24 rfl rfl
theorem dksX0_make_2 : cX0_make.data.toList.drop 48 = dktX0_make_2 := dk_seg dksX0_make_1 24 rfl rfl
theorem dX0_make_0 : decode cX0_make 0 = .ok (.iload_n 1, 1) := dk_27 (dk_at dksX0_make_0 0 rfl rfl)
theorem dX0_make_1 : decode cX0_make 1 = .ok (.invokestatic 90, 3) := dk_184 0 90 (dk_at dksX0_make_0 1 rfl rfl)
theorem dX0_make_4 : decode cX0_make 4 = .ok (.ifCond .ne 6, 3) := dk_154 0 6 (dk_at dksX0_make_0 4 rfl rfl)
theorem dX0_make_7 : decode cX0_make 7 = .ok (.bipush (-11), 2) := dk_16 245 (dk_at dksX0_make_0 7 rfl rfl)
theorem dX0_make_9 : decode cX0_make 9 = .ok (.ireturn, 1) := dk_172 (dk_at dksX0_make_0 9 rfl rfl)
theorem dX0_make_10 : decode cX0_make 10 = .ok (.iload_n 2, 1) := dk_28 (dk_at dksX0_make_0 10 rfl rfl)
theorem dX0_make_11 : decode cX0_make 11 = .ok (.iconst 1, 1) := dk_4 (dk_at dksX0_make_0 11 rfl rfl)
theorem dX0_make_12 : decode cX0_make 12 = .ok (.bipush 50, 2) := dk_16 50 (dk_at dksX0_make_0 12 rfl rfl)
theorem dX0_make_14 : decode cX0_make 14 = .ok (.invokestatic 36, 3) := dk_184 0 36 (dk_at dksX0_make_0 14 rfl rfl)
theorem dX0_make_17 : decode cX0_make 17 = .ok (.ifCond .ne 6, 3) := dk_154 0 6 (dk_at dksX0_make_0 17 rfl rfl)
theorem dX0_make_20 : decode cX0_make 20 = .ok (.bipush (-12), 2) := dk_16 244 (dk_at dksX0_make_0 20 rfl rfl)
theorem dX0_make_22 : decode cX0_make 22 = .ok (.ireturn, 1) := dk_172 (dk_at dksX0_make_0 22 rfl rfl)
theorem dX0_make_23 : decode cX0_make 23 = .ok (.aload_n 0, 1) := dk_42 (dk_at dksX0_make_0 23 rfl rfl)
theorem dX0_make_24 : decode cX0_make 24 = .ok (.getfield 10, 3) := dk_180 0 10 (dk_at dksX0_make_1 0 rfl rfl)
theorem dX0_make_27 : decode cX0_make 27 = .ok (.invokevirtual 66, 3) := dk_182 0 66 (dk_at dksX0_make_1 3 rfl rfl)
theorem dX0_make_30 : decode cX0_make 30 = .ok (.astore_n 3, 1) := dk_78 (dk_at dksX0_make_1 6 rfl rfl)
theorem dX0_make_31 : decode cX0_make 31 = .ok (.aload_n 0, 1) := dk_42 (dk_at dksX0_make_1 7 rfl rfl)
theorem dX0_make_32 : decode cX0_make 32 = .ok (.aload_n 3, 1) := dk_45 (dk_at dksX0_make_1 8 rfl rfl)
theorem dX0_make_33 : decode cX0_make 33 = .ok (.aload_n 0, 1) := dk_42 (dk_at dksX0_make_1 9 rfl rfl)
theorem dX0_make_34 : decode cX0_make 34 = .ok (.getfield 10, 3) := dk_180 0 10 (dk_at dksX0_make_1 10 rfl rfl)
theorem dX0_make_37 : decode cX0_make 37 = .ok (.iload_n 1, 1) := dk_27 (dk_at dksX0_make_1 13 rfl rfl)
theorem dX0_make_38 : decode cX0_make 38 = .ok (.iload_n 2, 1) := dk_28 (dk_at dksX0_make_1 14 rfl rfl)
theorem dX0_make_39 : decode cX0_make 39 = .ok (.invokevirtual 93, 3) := dk_182 0 93 (dk_at dksX0_make_1 15 rfl rfl)
theorem dX0_make_42 : decode cX0_make 42 = .ok (.invokevirtual 74, 3) := dk_182 0 74 (dk_at dksX0_make_1 18 rfl rfl)
theorem dX0_make_45 : decode cX0_make 45 = .ok (.ireturn, 1) := dk_172 (dk_at dksX0_make_1 21 rfl rfl)
theorem dX0_make_46 : decode cX0_make 46 = .ok (.astore 4, 2) := dk_58 4 (dk_at dksX0_make_1 22 rfl rfl)
theorem dX0_make_48 : decode cX0_make 48 = .ok (.aload_n 0, 1) := dk_42 (dk_at dksX0_make_2 0 rfl rfl)
theorem dX0_make_49 : decode cX0_make 49 = .ok (.aload 4, 2) := dk_25 4 (dk_at dksX0_make_2 1 rfl rfl)
theorem dX0_make_51 : decode cX0_make 51 = .ok (.invokevirtual 78, 3) := dk_182 0 78 (dk_at dksX0_make_2 3 rfl rfl)
theorem dX0_make_54 : decode cX0_make 54 = .ok (.ireturn, 1) := dk_172 (dk_at dksX0_make_2 6 rfl rfl)
abbrev cX0_isBristle : ByteArray := prog_1_method_4_code
def yX0_isBristle : MethodName := ⟨RX0, "isBristle", "(I)Z"⟩
def dkwX0_isBristle_0 : List UInt8 := [26, 3, 5, 184, 0, 36, 172]
abbrev dktX0_isBristle_0 : List UInt8 := dkwX0_isBristle_0 ++ []
theorem dksX0_isBristle_0 : cX0_isBristle.data.toList.drop 0 = dktX0_isBristle_0 := by decide +kernel
theorem dX0_isBristle_0 : decode cX0_isBristle 0 = .ok (.iload_n 0, 1) := dk_26 (dk_at dksX0_isBristle_0 0 rfl rfl)
theorem dX0_isBristle_1 : decode cX0_isBristle 1 = .ok (.iconst 0, 1) := dk_3 (dk_at dksX0_isBristle_0 1 rfl rfl)
theorem dX0_isBristle_2 : decode cX0_isBristle 2 = .ok (.iconst 2, 1) := dk_5 (dk_at dksX0_isBristle_0 2 rfl rfl)
theorem dX0_isBristle_3 : decode cX0_isBristle 3 = .ok (.invokestatic 36, 3) := dk_184 0 36 (dk_at dksX0_isBristle_0 3 rfl rfl)
theorem dX0_isBristle_6 : decode cX0_isBristle 6 = .ok (.ireturn, 1) := dk_172 (dk_at dksX0_isBristle_0 6 rfl rfl)
abbrev cX0_take : ByteArray := prog_1_method_13_code
def yX0_take : MethodName := ⟨RX0, "take", "(III)I"⟩
def dkwX0_take_2 : List UInt8 := [180, 0, 10, 27, 28, 29, 182, 0, 102, 182, 0, 74, 172, 58, 5, 42, 25, 5, 182, 0, 78, 172]
abbrev dktX0_take_2 : List UInt8 := dkwX0_take_2 ++ []
def dkwX0_take_1 : List UInt8 := [184, 0, 99, 154, 0, 6, 16, 244, 172, 42, 180, 0, 10, 182, 0, 66, 58, 4, 42, 25, 4, 42]
abbrev dktX0_take_1 : List UInt8 := dkwX0_take_1 ++ dktX0_take_2
def dkwX0_take_0 : List UInt8 := [42, 180, 0, 10, 27, 182, 0, 96, 153, 0, 10, 28, 184, 0, 90, 154, 0, 6, 16, 245, 172, 29]
abbrev dktX0_take_0 : List UInt8 := dkwX0_take_0 ++ dktX0_take_1
theorem dksX0_take_0 : cX0_take.data.toList.drop 0 = dktX0_take_0 := by decide +kernel
theorem dksX0_take_1 : cX0_take.data.toList.drop 22 = dktX0_take_1 := dk_seg dksX0_take_0 22 rfl rfl
theorem dksX0_take_2 : cX0_take.data.toList.drop 44 = dktX0_take_2 := dk_seg dksX0_take_1 22 rfl rfl
theorem dX0_take_0 : decode cX0_take 0 = .ok (.aload_n 0, 1) := dk_42 (dk_at dksX0_take_0 0 rfl rfl)
theorem dX0_take_1 : decode cX0_take 1 = .ok (.getfield 10, 3) := dk_180 0 10 (dk_at dksX0_take_0 1 rfl rfl)
theorem dX0_take_4 : decode cX0_take 4 = .ok (.iload_n 1, 1) := dk_27 (dk_at dksX0_take_0 4 rfl rfl)
theorem dX0_take_5 : decode cX0_take 5 = .ok (.invokevirtual 96, 3) := dk_182 0 96 (dk_at dksX0_take_0 5 rfl rfl)
theorem dX0_take_8 : decode cX0_take 8 = .ok (.ifCond .eq 10, 3) := dk_153 0 10 (dk_at dksX0_take_0 8 rfl rfl)
theorem dX0_take_11 : decode cX0_take 11 = .ok (.iload_n 2, 1) := dk_28 (dk_at dksX0_take_0 11 rfl rfl)
theorem dX0_take_12 : decode cX0_take 12 = .ok (.invokestatic 90, 3) := dk_184 0 90 (dk_at dksX0_take_0 12 rfl rfl)
theorem dX0_take_15 : decode cX0_take 15 = .ok (.ifCond .ne 6, 3) := dk_154 0 6 (dk_at dksX0_take_0 15 rfl rfl)
theorem dX0_take_18 : decode cX0_take 18 = .ok (.bipush (-11), 2) := dk_16 245 (dk_at dksX0_take_0 18 rfl rfl)
theorem dX0_take_20 : decode cX0_take 20 = .ok (.ireturn, 1) := dk_172 (dk_at dksX0_take_0 20 rfl rfl)
theorem dX0_take_21 : decode cX0_take 21 = .ok (.iload_n 3, 1) := dk_29 (dk_at dksX0_take_0 21 rfl rfl)
theorem dX0_take_22 : decode cX0_take 22 = .ok (.invokestatic 99, 3) := dk_184 0 99 (dk_at dksX0_take_1 0 rfl rfl)
theorem dX0_take_25 : decode cX0_take 25 = .ok (.ifCond .ne 6, 3) := dk_154 0 6 (dk_at dksX0_take_1 3 rfl rfl)
theorem dX0_take_28 : decode cX0_take 28 = .ok (.bipush (-12), 2) := dk_16 244 (dk_at dksX0_take_1 6 rfl rfl)
theorem dX0_take_30 : decode cX0_take 30 = .ok (.ireturn, 1) := dk_172 (dk_at dksX0_take_1 8 rfl rfl)
theorem dX0_take_31 : decode cX0_take 31 = .ok (.aload_n 0, 1) := dk_42 (dk_at dksX0_take_1 9 rfl rfl)
theorem dX0_take_32 : decode cX0_take 32 = .ok (.getfield 10, 3) := dk_180 0 10 (dk_at dksX0_take_1 10 rfl rfl)
theorem dX0_take_35 : decode cX0_take 35 = .ok (.invokevirtual 66, 3) := dk_182 0 66 (dk_at dksX0_take_1 13 rfl rfl)
theorem dX0_take_38 : decode cX0_take 38 = .ok (.astore 4, 2) := dk_58 4 (dk_at dksX0_take_1 16 rfl rfl)
theorem dX0_take_40 : decode cX0_take 40 = .ok (.aload_n 0, 1) := dk_42 (dk_at dksX0_take_1 18 rfl rfl)
theorem dX0_take_41 : decode cX0_take 41 = .ok (.aload 4, 2) := dk_25 4 (dk_at dksX0_take_1 19 rfl rfl)
theorem dX0_take_43 : decode cX0_take 43 = .ok (.aload_n 0, 1) := dk_42 (dk_at dksX0_take_1 21 rfl rfl)
theorem dX0_take_44 : decode cX0_take 44 = .ok (.getfield 10, 3) := dk_180 0 10 (dk_at dksX0_take_2 0 rfl rfl)
theorem dX0_take_47 : decode cX0_take 47 = .ok (.iload_n 1, 1) := dk_27 (dk_at dksX0_take_2 3 rfl rfl)
theorem dX0_take_48 : decode cX0_take 48 = .ok (.iload_n 2, 1) := dk_28 (dk_at dksX0_take_2 4 rfl rfl)
theorem dX0_take_49 : decode cX0_take 49 = .ok (.iload_n 3, 1) := dk_29 (dk_at dksX0_take_2 5 rfl rfl)
theorem dX0_take_50 : decode cX0_take 50 = .ok (.invokevirtual 102, 3) := dk_182 0 102 (dk_at dksX0_take_2 6 rfl rfl)
theorem dX0_take_53 : decode cX0_take 53 = .ok (.invokevirtual 74, 3) := dk_182 0 74 (dk_at dksX0_take_2 9 rfl rfl)
theorem dX0_take_56 : decode cX0_take 56 = .ok (.ireturn, 1) := dk_172 (dk_at dksX0_take_2 12 rfl rfl)
theorem dX0_take_57 : decode cX0_take 57 = .ok (.astore 5, 2) := dk_58 5 (dk_at dksX0_take_2 13 rfl rfl)
theorem dX0_take_59 : decode cX0_take 59 = .ok (.aload_n 0, 1) := dk_42 (dk_at dksX0_take_2 15 rfl rfl)
theorem dX0_take_60 : decode cX0_take 60 = .ok (.aload 5, 2) := dk_25 5 (dk_at dksX0_take_2 16 rfl rfl)
theorem dX0_take_62 : decode cX0_take 62 = .ok (.invokevirtual 78, 3) := dk_182 0 78 (dk_at dksX0_take_2 18 rfl rfl)
theorem dX0_take_65 : decode cX0_take 65 = .ok (.ireturn, 1) := dk_172 (dk_at dksX0_take_2 21 rfl rfl)
abbrev cX0_areTaken : ByteArray := prog_1_method_12_code
def yX0_areTaken : MethodName := ⟨RX0, "areTaken", "(I)Z"⟩
def dkwX0_areTaken_0 : List UInt8 := [26, 153, 0, 18, 26, 16, 244, 16, 12, 184, 0, 36, 153, 0, 7, 4, 167, 0, 4, 3, 172]
abbrev dktX0_areTaken_0 : List UInt8 := dkwX0_areTaken_0 ++ []
theorem dksX0_areTaken_0 : cX0_areTaken.data.toList.drop 0 = dktX0_areTaken_0 := by decide +kernel
theorem dX0_areTaken_0 : decode cX0_areTaken 0 = .ok (.iload_n 0, 1) := dk_26 (dk_at dksX0_areTaken_0 0 rfl rfl)
theorem dX0_areTaken_1 : decode cX0_areTaken 1 = .ok (.ifCond .eq 18, 3) := dk_153 0 18 (dk_at dksX0_areTaken_0 1 rfl rfl)
theorem dX0_areTaken_4 : decode cX0_areTaken 4 = .ok (.iload_n 0, 1) := dk_26 (dk_at dksX0_areTaken_0 4 rfl rfl)
theorem dX0_areTaken_5 : decode cX0_areTaken 5 = .ok (.bipush (-12), 2) := dk_16 244 (dk_at dksX0_areTaken_0 5 rfl rfl)
theorem dX0_areTaken_7 : decode cX0_areTaken 7 = .ok (.bipush 12, 2) := dk_16 12 (dk_at dksX0_areTaken_0 7 rfl rfl)
theorem dX0_areTaken_9 : decode cX0_areTaken 9 = .ok (.invokestatic 36, 3) := dk_184 0 36 (dk_at dksX0_areTaken_0 9 rfl rfl)
theorem dX0_areTaken_12 : decode cX0_areTaken 12 = .ok (.ifCond .eq 7, 3) := dk_153 0 7 (dk_at dksX0_areTaken_0 12 rfl rfl)
theorem dX0_areTaken_15 : decode cX0_areTaken 15 = .ok (.iconst 1, 1) := dk_4 (dk_at dksX0_areTaken_0 15 rfl rfl)
theorem dX0_areTaken_16 : decode cX0_areTaken 16 = .ok (.goto 4, 3) := dk_167 0 4 (dk_at dksX0_areTaken_0 16 rfl rfl)
theorem dX0_areTaken_19 : decode cX0_areTaken 19 = .ok (.iconst 0, 1) := dk_3 (dk_at dksX0_areTaken_0 19 rfl rfl)
theorem dX0_areTaken_20 : decode cX0_areTaken 20 = .ok (.ireturn, 1) := dk_172 (dk_at dksX0_areTaken_0 20 rfl rfl)
abbrev cX0_sellerOf : ByteArray := prog_1_method_14_code
def yX0_sellerOf : MethodName := ⟨RX0, "sellerOf", "(II)I"⟩
def dkwX0_sellerOf_1 : List UInt8 := [192, 0, 116, 28, 182, 0, 118, 167, 0, 5, 16, 245, 172]
abbrev dktX0_sellerOf_1 : List UInt8 := dkwX0_sellerOf_1 ++ []
def dkwX0_sellerOf_0 : List UInt8 := [42, 180, 0, 10, 27, 182, 0, 96, 153, 0, 24, 42, 180, 0, 10, 180, 0, 106, 27, 182, 0, 110]
abbrev dktX0_sellerOf_0 : List UInt8 := dkwX0_sellerOf_0 ++ dktX0_sellerOf_1
theorem dksX0_sellerOf_0 : cX0_sellerOf.data.toList.drop 0 = dktX0_sellerOf_0 := by decide +kernel
theorem dksX0_sellerOf_1 : cX0_sellerOf.data.toList.drop 22 = dktX0_sellerOf_1 := dk_seg dksX0_sellerOf_0 22 rfl rfl
theorem dX0_sellerOf_0 : decode cX0_sellerOf 0 = .ok (.aload_n 0, 1) := dk_42 (dk_at dksX0_sellerOf_0 0 rfl rfl)
theorem dX0_sellerOf_1 : decode cX0_sellerOf 1 = .ok (.getfield 10, 3) := dk_180 0 10 (dk_at dksX0_sellerOf_0 1 rfl rfl)
theorem dX0_sellerOf_4 : decode cX0_sellerOf 4 = .ok (.iload_n 1, 1) := dk_27 (dk_at dksX0_sellerOf_0 4 rfl rfl)
theorem dX0_sellerOf_5 : decode cX0_sellerOf 5 = .ok (.invokevirtual 96, 3) := dk_182 0 96 (dk_at dksX0_sellerOf_0 5 rfl rfl)
theorem dX0_sellerOf_8 : decode cX0_sellerOf 8 = .ok (.ifCond .eq 24, 3) := dk_153 0 24 (dk_at dksX0_sellerOf_0 8 rfl rfl)
theorem dX0_sellerOf_11 : decode cX0_sellerOf 11 = .ok (.aload_n 0, 1) := dk_42 (dk_at dksX0_sellerOf_0 11 rfl rfl)
theorem dX0_sellerOf_12 : decode cX0_sellerOf 12 = .ok (.getfield 10, 3) := dk_180 0 10 (dk_at dksX0_sellerOf_0 12 rfl rfl)
theorem dX0_sellerOf_15 : decode cX0_sellerOf 15 = .ok (.getfield 106, 3) := dk_180 0 106 (dk_at dksX0_sellerOf_0 15 rfl rfl)
theorem dX0_sellerOf_18 : decode cX0_sellerOf 18 = .ok (.iload_n 1, 1) := dk_27 (dk_at dksX0_sellerOf_0 18 rfl rfl)
theorem dX0_sellerOf_19 : decode cX0_sellerOf 19 = .ok (.invokevirtual 110, 3) := dk_182 0 110 (dk_at dksX0_sellerOf_0 19 rfl rfl)
theorem dX0_sellerOf_22 : decode cX0_sellerOf 22 = .ok (.checkcast 116, 3) := dk_192 0 116 (dk_at dksX0_sellerOf_1 0 rfl rfl)
theorem dX0_sellerOf_25 : decode cX0_sellerOf 25 = .ok (.iload_n 2, 1) := dk_28 (dk_at dksX0_sellerOf_1 3 rfl rfl)
theorem dX0_sellerOf_26 : decode cX0_sellerOf 26 = .ok (.invokevirtual 118, 3) := dk_182 0 118 (dk_at dksX0_sellerOf_1 4 rfl rfl)
theorem dX0_sellerOf_29 : decode cX0_sellerOf 29 = .ok (.goto 5, 3) := dk_167 0 5 (dk_at dksX0_sellerOf_1 7 rfl rfl)
theorem dX0_sellerOf_32 : decode cX0_sellerOf 32 = .ok (.bipush (-11), 2) := dk_16 245 (dk_at dksX0_sellerOf_1 10 rfl rfl)
theorem dX0_sellerOf_34 : decode cX0_sellerOf 34 = .ok (.ireturn, 1) := dk_172 (dk_at dksX0_sellerOf_1 12 rfl rfl)
abbrev cX0_houseOf : ByteArray := prog_1_method_15_code
def yX0_houseOf : MethodName := ⟨RX0, "houseOf", "(II)I"⟩
def dkwX0_houseOf_1 : List UInt8 := [182, 0, 126, 167, 0, 5, 16, 245, 172]
abbrev dktX0_houseOf_1 : List UInt8 := dkwX0_houseOf_1 ++ []
def dkwX0_houseOf_0 : List UInt8 := [27, 184, 0, 82, 153, 0, 24, 42, 180, 0, 10, 180, 0, 121, 27, 182, 0, 110, 192, 0, 124, 28]
abbrev dktX0_houseOf_0 : List UInt8 := dkwX0_houseOf_0 ++ dktX0_houseOf_1
theorem dksX0_houseOf_0 : cX0_houseOf.data.toList.drop 0 = dktX0_houseOf_0 := by decide +kernel
theorem dksX0_houseOf_1 : cX0_houseOf.data.toList.drop 22 = dktX0_houseOf_1 := dk_seg dksX0_houseOf_0 22 rfl rfl
theorem dX0_houseOf_0 : decode cX0_houseOf 0 = .ok (.iload_n 1, 1) := dk_27 (dk_at dksX0_houseOf_0 0 rfl rfl)
theorem dX0_houseOf_1 : decode cX0_houseOf 1 = .ok (.invokestatic 82, 3) := dk_184 0 82 (dk_at dksX0_houseOf_0 1 rfl rfl)
theorem dX0_houseOf_4 : decode cX0_houseOf 4 = .ok (.ifCond .eq 24, 3) := dk_153 0 24 (dk_at dksX0_houseOf_0 4 rfl rfl)
theorem dX0_houseOf_7 : decode cX0_houseOf 7 = .ok (.aload_n 0, 1) := dk_42 (dk_at dksX0_houseOf_0 7 rfl rfl)
theorem dX0_houseOf_8 : decode cX0_houseOf 8 = .ok (.getfield 10, 3) := dk_180 0 10 (dk_at dksX0_houseOf_0 8 rfl rfl)
theorem dX0_houseOf_11 : decode cX0_houseOf 11 = .ok (.getfield 121, 3) := dk_180 0 121 (dk_at dksX0_houseOf_0 11 rfl rfl)
theorem dX0_houseOf_14 : decode cX0_houseOf 14 = .ok (.iload_n 1, 1) := dk_27 (dk_at dksX0_houseOf_0 14 rfl rfl)
theorem dX0_houseOf_15 : decode cX0_houseOf 15 = .ok (.invokevirtual 110, 3) := dk_182 0 110 (dk_at dksX0_houseOf_0 15 rfl rfl)
theorem dX0_houseOf_18 : decode cX0_houseOf 18 = .ok (.checkcast 124, 3) := dk_192 0 124 (dk_at dksX0_houseOf_0 18 rfl rfl)
theorem dX0_houseOf_21 : decode cX0_houseOf 21 = .ok (.iload_n 2, 1) := dk_28 (dk_at dksX0_houseOf_0 21 rfl rfl)
theorem dX0_houseOf_22 : decode cX0_houseOf 22 = .ok (.invokevirtual 126, 3) := dk_182 0 126 (dk_at dksX0_houseOf_1 0 rfl rfl)
theorem dX0_houseOf_25 : decode cX0_houseOf 25 = .ok (.goto 5, 3) := dk_167 0 5 (dk_at dksX0_houseOf_1 3 rfl rfl)
theorem dX0_houseOf_28 : decode cX0_houseOf 28 = .ok (.bipush (-11), 2) := dk_16 245 (dk_at dksX0_houseOf_1 6 rfl rfl)
theorem dX0_houseOf_30 : decode cX0_houseOf 30 = .ok (.ireturn, 1) := dk_172 (dk_at dksX0_houseOf_1 8 rfl rfl)
abbrev cX0_depot : ByteArray := prog_1_method_16_code
def yX0_depot : MethodName := ⟨RX0, "depot", "(I)I"⟩
def dkwX0_depot_0 : List UInt8 := [27, 184, 0, 90, 153, 0, 15, 42, 180, 0, 10, 180, 0, 127, 27, 46, 167, 0, 5, 16, 245, 172]
abbrev dktX0_depot_0 : List UInt8 := dkwX0_depot_0 ++ []
theorem dksX0_depot_0 : cX0_depot.data.toList.drop 0 = dktX0_depot_0 := by decide +kernel
theorem dX0_depot_0 : decode cX0_depot 0 = .ok (.iload_n 1, 1) := dk_27 (dk_at dksX0_depot_0 0 rfl rfl)
theorem dX0_depot_1 : decode cX0_depot 1 = .ok (.invokestatic 90, 3) := dk_184 0 90 (dk_at dksX0_depot_0 1 rfl rfl)
theorem dX0_depot_4 : decode cX0_depot 4 = .ok (.ifCond .eq 15, 3) := dk_153 0 15 (dk_at dksX0_depot_0 4 rfl rfl)
theorem dX0_depot_7 : decode cX0_depot 7 = .ok (.aload_n 0, 1) := dk_42 (dk_at dksX0_depot_0 7 rfl rfl)
theorem dX0_depot_8 : decode cX0_depot 8 = .ok (.getfield 10, 3) := dk_180 0 10 (dk_at dksX0_depot_0 8 rfl rfl)
theorem dX0_depot_11 : decode cX0_depot 11 = .ok (.getfield 127, 3) := dk_180 0 127 (dk_at dksX0_depot_0 11 rfl rfl)
theorem dX0_depot_14 : decode cX0_depot 14 = .ok (.iload_n 1, 1) := dk_27 (dk_at dksX0_depot_0 14 rfl rfl)
theorem dX0_depot_15 : decode cX0_depot 15 = .ok (.iaload, 1) := dk_46 (dk_at dksX0_depot_0 15 rfl rfl)
theorem dX0_depot_16 : decode cX0_depot 16 = .ok (.goto 5, 3) := dk_167 0 5 (dk_at dksX0_depot_0 16 rfl rfl)
theorem dX0_depot_19 : decode cX0_depot 19 = .ok (.bipush (-11), 2) := dk_16 245 (dk_at dksX0_depot_0 19 rfl rfl)
theorem dX0_depot_21 : decode cX0_depot 21 = .ok (.ireturn, 1) := dk_172 (dk_at dksX0_depot_0 21 rfl rfl)
abbrev cX0_go : ByteArray := prog_1_method_17_code
def yX0_go : MethodName := ⟨RX0, "go", "(II)I"⟩
def dkwX0_go_2 : List UInt8 := [42, 25, 4, 182, 0, 78, 172]
abbrev dktX0_go_2 : List UInt8 := dkwX0_go_2 ++ []
def dkwX0_go_1 : List UInt8 := [180, 0, 10, 182, 0, 66, 78, 42, 45, 42, 180, 0, 10, 27, 28, 182, 0, 131, 182, 0, 74, 172, 58, 4]
abbrev dktX0_go_1 : List UInt8 := dkwX0_go_1 ++ dktX0_go_2
def dkwX0_go_0 : List UInt8 := [42, 180, 0, 10, 27, 182, 0, 96, 153, 0, 10, 28, 184, 0, 82, 154, 0, 6, 16, 245, 172, 42]
abbrev dktX0_go_0 : List UInt8 := dkwX0_go_0 ++ dktX0_go_1
theorem dksX0_go_0 : cX0_go.data.toList.drop 0 = dktX0_go_0 := by decide +kernel
theorem dksX0_go_1 : cX0_go.data.toList.drop 22 = dktX0_go_1 := dk_seg dksX0_go_0 22 rfl rfl
theorem dksX0_go_2 : cX0_go.data.toList.drop 46 = dktX0_go_2 := dk_seg dksX0_go_1 24 rfl rfl
theorem dX0_go_0 : decode cX0_go 0 = .ok (.aload_n 0, 1) := dk_42 (dk_at dksX0_go_0 0 rfl rfl)
theorem dX0_go_1 : decode cX0_go 1 = .ok (.getfield 10, 3) := dk_180 0 10 (dk_at dksX0_go_0 1 rfl rfl)
theorem dX0_go_4 : decode cX0_go 4 = .ok (.iload_n 1, 1) := dk_27 (dk_at dksX0_go_0 4 rfl rfl)
theorem dX0_go_5 : decode cX0_go 5 = .ok (.invokevirtual 96, 3) := dk_182 0 96 (dk_at dksX0_go_0 5 rfl rfl)
theorem dX0_go_8 : decode cX0_go 8 = .ok (.ifCond .eq 10, 3) := dk_153 0 10 (dk_at dksX0_go_0 8 rfl rfl)
theorem dX0_go_11 : decode cX0_go 11 = .ok (.iload_n 2, 1) := dk_28 (dk_at dksX0_go_0 11 rfl rfl)
theorem dX0_go_12 : decode cX0_go 12 = .ok (.invokestatic 82, 3) := dk_184 0 82 (dk_at dksX0_go_0 12 rfl rfl)
theorem dX0_go_15 : decode cX0_go 15 = .ok (.ifCond .ne 6, 3) := dk_154 0 6 (dk_at dksX0_go_0 15 rfl rfl)
theorem dX0_go_18 : decode cX0_go 18 = .ok (.bipush (-11), 2) := dk_16 245 (dk_at dksX0_go_0 18 rfl rfl)
theorem dX0_go_20 : decode cX0_go 20 = .ok (.ireturn, 1) := dk_172 (dk_at dksX0_go_0 20 rfl rfl)
theorem dX0_go_21 : decode cX0_go 21 = .ok (.aload_n 0, 1) := dk_42 (dk_at dksX0_go_0 21 rfl rfl)
theorem dX0_go_22 : decode cX0_go 22 = .ok (.getfield 10, 3) := dk_180 0 10 (dk_at dksX0_go_1 0 rfl rfl)
theorem dX0_go_25 : decode cX0_go 25 = .ok (.invokevirtual 66, 3) := dk_182 0 66 (dk_at dksX0_go_1 3 rfl rfl)
theorem dX0_go_28 : decode cX0_go 28 = .ok (.astore_n 3, 1) := dk_78 (dk_at dksX0_go_1 6 rfl rfl)
theorem dX0_go_29 : decode cX0_go 29 = .ok (.aload_n 0, 1) := dk_42 (dk_at dksX0_go_1 7 rfl rfl)
theorem dX0_go_30 : decode cX0_go 30 = .ok (.aload_n 3, 1) := dk_45 (dk_at dksX0_go_1 8 rfl rfl)
theorem dX0_go_31 : decode cX0_go 31 = .ok (.aload_n 0, 1) := dk_42 (dk_at dksX0_go_1 9 rfl rfl)
theorem dX0_go_32 : decode cX0_go 32 = .ok (.getfield 10, 3) := dk_180 0 10 (dk_at dksX0_go_1 10 rfl rfl)
theorem dX0_go_35 : decode cX0_go 35 = .ok (.iload_n 1, 1) := dk_27 (dk_at dksX0_go_1 13 rfl rfl)
theorem dX0_go_36 : decode cX0_go 36 = .ok (.iload_n 2, 1) := dk_28 (dk_at dksX0_go_1 14 rfl rfl)
theorem dX0_go_37 : decode cX0_go 37 = .ok (.invokevirtual 131, 3) := dk_182 0 131 (dk_at dksX0_go_1 15 rfl rfl)
theorem dX0_go_40 : decode cX0_go 40 = .ok (.invokevirtual 74, 3) := dk_182 0 74 (dk_at dksX0_go_1 18 rfl rfl)
theorem dX0_go_43 : decode cX0_go 43 = .ok (.ireturn, 1) := dk_172 (dk_at dksX0_go_1 21 rfl rfl)
theorem dX0_go_44 : decode cX0_go 44 = .ok (.astore 4, 2) := dk_58 4 (dk_at dksX0_go_1 22 rfl rfl)
theorem dX0_go_46 : decode cX0_go 46 = .ok (.aload_n 0, 1) := dk_42 (dk_at dksX0_go_2 0 rfl rfl)
theorem dX0_go_47 : decode cX0_go 47 = .ok (.aload 4, 2) := dk_25 4 (dk_at dksX0_go_2 1 rfl rfl)
theorem dX0_go_49 : decode cX0_go 49 = .ok (.invokevirtual 78, 3) := dk_182 0 78 (dk_at dksX0_go_2 3 rfl rfl)
theorem dX0_go_52 : decode cX0_go 52 = .ok (.ireturn, 1) := dk_172 (dk_at dksX0_go_2 6 rfl rfl)
abbrev cX0_soles : ByteArray := prog_1_method_18_code
def yX0_soles : MethodName := ⟨RX0, "soles", "(I)I"⟩
def dkwX0_soles_1 : List UInt8 := [42, 180, 0, 10, 27, 182, 0, 134, 182, 0, 74, 172, 78, 42, 45, 182, 0, 78, 172]
abbrev dktX0_soles_1 : List UInt8 := dkwX0_soles_1 ++ []
def dkwX0_soles_0 : List UInt8 := [42, 180, 0, 10, 27, 182, 0, 96, 154, 0, 6, 16, 245, 172, 42, 180, 0, 10, 182, 0, 66, 77, 42, 44]
abbrev dktX0_soles_0 : List UInt8 := dkwX0_soles_0 ++ dktX0_soles_1
theorem dksX0_soles_0 : cX0_soles.data.toList.drop 0 = dktX0_soles_0 := by decide +kernel
theorem dksX0_soles_1 : cX0_soles.data.toList.drop 24 = dktX0_soles_1 := dk_seg dksX0_soles_0 24 rfl rfl
theorem dX0_soles_0 : decode cX0_soles 0 = .ok (.aload_n 0, 1) := dk_42 (dk_at dksX0_soles_0 0 rfl rfl)
theorem dX0_soles_1 : decode cX0_soles 1 = .ok (.getfield 10, 3) := dk_180 0 10 (dk_at dksX0_soles_0 1 rfl rfl)
theorem dX0_soles_4 : decode cX0_soles 4 = .ok (.iload_n 1, 1) := dk_27 (dk_at dksX0_soles_0 4 rfl rfl)
theorem dX0_soles_5 : decode cX0_soles 5 = .ok (.invokevirtual 96, 3) := dk_182 0 96 (dk_at dksX0_soles_0 5 rfl rfl)
theorem dX0_soles_8 : decode cX0_soles 8 = .ok (.ifCond .ne 6, 3) := dk_154 0 6 (dk_at dksX0_soles_0 8 rfl rfl)
theorem dX0_soles_11 : decode cX0_soles 11 = .ok (.bipush (-11), 2) := dk_16 245 (dk_at dksX0_soles_0 11 rfl rfl)
theorem dX0_soles_13 : decode cX0_soles 13 = .ok (.ireturn, 1) := dk_172 (dk_at dksX0_soles_0 13 rfl rfl)
theorem dX0_soles_14 : decode cX0_soles 14 = .ok (.aload_n 0, 1) := dk_42 (dk_at dksX0_soles_0 14 rfl rfl)
theorem dX0_soles_15 : decode cX0_soles 15 = .ok (.getfield 10, 3) := dk_180 0 10 (dk_at dksX0_soles_0 15 rfl rfl)
theorem dX0_soles_18 : decode cX0_soles 18 = .ok (.invokevirtual 66, 3) := dk_182 0 66 (dk_at dksX0_soles_0 18 rfl rfl)
theorem dX0_soles_21 : decode cX0_soles 21 = .ok (.astore_n 2, 1) := dk_77 (dk_at dksX0_soles_0 21 rfl rfl)
theorem dX0_soles_22 : decode cX0_soles 22 = .ok (.aload_n 0, 1) := dk_42 (dk_at dksX0_soles_0 22 rfl rfl)
theorem dX0_soles_23 : decode cX0_soles 23 = .ok (.aload_n 2, 1) := dk_44 (dk_at dksX0_soles_0 23 rfl rfl)
theorem dX0_soles_24 : decode cX0_soles 24 = .ok (.aload_n 0, 1) := dk_42 (dk_at dksX0_soles_1 0 rfl rfl)
theorem dX0_soles_25 : decode cX0_soles 25 = .ok (.getfield 10, 3) := dk_180 0 10 (dk_at dksX0_soles_1 1 rfl rfl)
theorem dX0_soles_28 : decode cX0_soles 28 = .ok (.iload_n 1, 1) := dk_27 (dk_at dksX0_soles_1 4 rfl rfl)
theorem dX0_soles_29 : decode cX0_soles 29 = .ok (.invokevirtual 134, 3) := dk_182 0 134 (dk_at dksX0_soles_1 5 rfl rfl)
theorem dX0_soles_32 : decode cX0_soles 32 = .ok (.invokevirtual 74, 3) := dk_182 0 74 (dk_at dksX0_soles_1 8 rfl rfl)
theorem dX0_soles_35 : decode cX0_soles 35 = .ok (.ireturn, 1) := dk_172 (dk_at dksX0_soles_1 11 rfl rfl)
theorem dX0_soles_36 : decode cX0_soles 36 = .ok (.astore_n 3, 1) := dk_78 (dk_at dksX0_soles_1 12 rfl rfl)
theorem dX0_soles_37 : decode cX0_soles 37 = .ok (.aload_n 0, 1) := dk_42 (dk_at dksX0_soles_1 13 rfl rfl)
theorem dX0_soles_38 : decode cX0_soles 38 = .ok (.aload_n 3, 1) := dk_45 (dk_at dksX0_soles_1 14 rfl rfl)
theorem dX0_soles_39 : decode cX0_soles 39 = .ok (.invokevirtual 78, 3) := dk_182 0 78 (dk_at dksX0_soles_1 15 rfl rfl)
theorem dX0_soles_42 : decode cX0_soles 42 = .ok (.ireturn, 1) := dk_172 (dk_at dksX0_soles_1 18 rfl rfl)
abbrev cX0_pet : ByteArray := prog_1_method_19_code
def yX0_pet : MethodName := ⟨RX0, "pet", "(I)I"⟩
def dkwX0_pet_1 : List UInt8 := [42, 180, 0, 10, 27, 182, 0, 137, 182, 0, 74, 172, 78, 42, 45, 182, 0, 78, 172]
abbrev dktX0_pet_1 : List UInt8 := dkwX0_pet_1 ++ []
def dkwX0_pet_0 : List UInt8 := [42, 180, 0, 10, 27, 182, 0, 96, 154, 0, 6, 16, 245, 172, 42, 180, 0, 10, 182, 0, 66, 77, 42, 44]
abbrev dktX0_pet_0 : List UInt8 := dkwX0_pet_0 ++ dktX0_pet_1
theorem dksX0_pet_0 : cX0_pet.data.toList.drop 0 = dktX0_pet_0 := by decide +kernel
theorem dksX0_pet_1 : cX0_pet.data.toList.drop 24 = dktX0_pet_1 := dk_seg dksX0_pet_0 24 rfl rfl
theorem dX0_pet_0 : decode cX0_pet 0 = .ok (.aload_n 0, 1) := dk_42 (dk_at dksX0_pet_0 0 rfl rfl)
theorem dX0_pet_1 : decode cX0_pet 1 = .ok (.getfield 10, 3) := dk_180 0 10 (dk_at dksX0_pet_0 1 rfl rfl)
theorem dX0_pet_4 : decode cX0_pet 4 = .ok (.iload_n 1, 1) := dk_27 (dk_at dksX0_pet_0 4 rfl rfl)
theorem dX0_pet_5 : decode cX0_pet 5 = .ok (.invokevirtual 96, 3) := dk_182 0 96 (dk_at dksX0_pet_0 5 rfl rfl)
theorem dX0_pet_8 : decode cX0_pet 8 = .ok (.ifCond .ne 6, 3) := dk_154 0 6 (dk_at dksX0_pet_0 8 rfl rfl)
theorem dX0_pet_11 : decode cX0_pet 11 = .ok (.bipush (-11), 2) := dk_16 245 (dk_at dksX0_pet_0 11 rfl rfl)
theorem dX0_pet_13 : decode cX0_pet 13 = .ok (.ireturn, 1) := dk_172 (dk_at dksX0_pet_0 13 rfl rfl)
theorem dX0_pet_14 : decode cX0_pet 14 = .ok (.aload_n 0, 1) := dk_42 (dk_at dksX0_pet_0 14 rfl rfl)
theorem dX0_pet_15 : decode cX0_pet 15 = .ok (.getfield 10, 3) := dk_180 0 10 (dk_at dksX0_pet_0 15 rfl rfl)
theorem dX0_pet_18 : decode cX0_pet 18 = .ok (.invokevirtual 66, 3) := dk_182 0 66 (dk_at dksX0_pet_0 18 rfl rfl)
theorem dX0_pet_21 : decode cX0_pet 21 = .ok (.astore_n 2, 1) := dk_77 (dk_at dksX0_pet_0 21 rfl rfl)
theorem dX0_pet_22 : decode cX0_pet 22 = .ok (.aload_n 0, 1) := dk_42 (dk_at dksX0_pet_0 22 rfl rfl)
theorem dX0_pet_23 : decode cX0_pet 23 = .ok (.aload_n 2, 1) := dk_44 (dk_at dksX0_pet_0 23 rfl rfl)
theorem dX0_pet_24 : decode cX0_pet 24 = .ok (.aload_n 0, 1) := dk_42 (dk_at dksX0_pet_1 0 rfl rfl)
theorem dX0_pet_25 : decode cX0_pet 25 = .ok (.getfield 10, 3) := dk_180 0 10 (dk_at dksX0_pet_1 1 rfl rfl)
theorem dX0_pet_28 : decode cX0_pet 28 = .ok (.iload_n 1, 1) := dk_27 (dk_at dksX0_pet_1 4 rfl rfl)
theorem dX0_pet_29 : decode cX0_pet 29 = .ok (.invokevirtual 137, 3) := dk_182 0 137 (dk_at dksX0_pet_1 5 rfl rfl)
theorem dX0_pet_32 : decode cX0_pet 32 = .ok (.invokevirtual 74, 3) := dk_182 0 74 (dk_at dksX0_pet_1 8 rfl rfl)
theorem dX0_pet_35 : decode cX0_pet 35 = .ok (.ireturn, 1) := dk_172 (dk_at dksX0_pet_1 11 rfl rfl)
theorem dX0_pet_36 : decode cX0_pet 36 = .ok (.astore_n 3, 1) := dk_78 (dk_at dksX0_pet_1 12 rfl rfl)
theorem dX0_pet_37 : decode cX0_pet 37 = .ok (.aload_n 0, 1) := dk_42 (dk_at dksX0_pet_1 13 rfl rfl)
theorem dX0_pet_38 : decode cX0_pet 38 = .ok (.aload_n 3, 1) := dk_45 (dk_at dksX0_pet_1 14 rfl rfl)
theorem dX0_pet_39 : decode cX0_pet 39 = .ok (.invokevirtual 78, 3) := dk_182 0 78 (dk_at dksX0_pet_1 15 rfl rfl)
theorem dX0_pet_42 : decode cX0_pet 42 = .ok (.ireturn, 1) := dk_172 (dk_at dksX0_pet_1 18 rfl rfl)
abbrev cX0_rounds : ByteArray := prog_1_method_20_code
def yX0_rounds : MethodName := ⟨RX0, "rounds", "(II)I"⟩
def dkwX0_rounds_2 : List UInt8 := [167, 0, 8, 45, 28, 182, 0, 143, 172]
abbrev dktX0_rounds_2 : List UInt8 := dkwX0_rounds_2 ++ []
def dkwX0_rounds_1 : List UInt8 := [180, 0, 10, 180, 0, 106, 27, 182, 0, 110, 192, 0, 116, 78, 45, 28, 182, 0, 140, 153, 0, 8, 16, 241]
abbrev dktX0_rounds_1 : List UInt8 := dkwX0_rounds_1 ++ dktX0_rounds_2
def dkwX0_rounds_0 : List UInt8 := [42, 180, 0, 10, 27, 182, 0, 96, 153, 0, 10, 28, 184, 0, 82, 154, 0, 6, 16, 245, 172, 42]
abbrev dktX0_rounds_0 : List UInt8 := dkwX0_rounds_0 ++ dktX0_rounds_1
theorem dksX0_rounds_0 : cX0_rounds.data.toList.drop 0 = dktX0_rounds_0 := by decide +kernel
theorem dksX0_rounds_1 : cX0_rounds.data.toList.drop 22 = dktX0_rounds_1 := dk_seg dksX0_rounds_0 22 rfl rfl
theorem dksX0_rounds_2 : cX0_rounds.data.toList.drop 46 = dktX0_rounds_2 := dk_seg dksX0_rounds_1 24 rfl rfl
theorem dX0_rounds_0 : decode cX0_rounds 0 = .ok (.aload_n 0, 1) := dk_42 (dk_at dksX0_rounds_0 0 rfl rfl)
theorem dX0_rounds_1 : decode cX0_rounds 1 = .ok (.getfield 10, 3) := dk_180 0 10 (dk_at dksX0_rounds_0 1 rfl rfl)
theorem dX0_rounds_4 : decode cX0_rounds 4 = .ok (.iload_n 1, 1) := dk_27 (dk_at dksX0_rounds_0 4 rfl rfl)
theorem dX0_rounds_5 : decode cX0_rounds 5 = .ok (.invokevirtual 96, 3) := dk_182 0 96 (dk_at dksX0_rounds_0 5 rfl rfl)
theorem dX0_rounds_8 : decode cX0_rounds 8 = .ok (.ifCond .eq 10, 3) := dk_153 0 10 (dk_at dksX0_rounds_0 8 rfl rfl)
theorem dX0_rounds_11 : decode cX0_rounds 11 = .ok (.iload_n 2, 1) := dk_28 (dk_at dksX0_rounds_0 11 rfl rfl)
theorem dX0_rounds_12 : decode cX0_rounds 12 = .ok (.invokestatic 82, 3) := dk_184 0 82 (dk_at dksX0_rounds_0 12 rfl rfl)
theorem dX0_rounds_15 : decode cX0_rounds 15 = .ok (.ifCond .ne 6, 3) := dk_154 0 6 (dk_at dksX0_rounds_0 15 rfl rfl)
theorem dX0_rounds_18 : decode cX0_rounds 18 = .ok (.bipush (-11), 2) := dk_16 245 (dk_at dksX0_rounds_0 18 rfl rfl)
theorem dX0_rounds_20 : decode cX0_rounds 20 = .ok (.ireturn, 1) := dk_172 (dk_at dksX0_rounds_0 20 rfl rfl)
theorem dX0_rounds_21 : decode cX0_rounds 21 = .ok (.aload_n 0, 1) := dk_42 (dk_at dksX0_rounds_0 21 rfl rfl)
theorem dX0_rounds_22 : decode cX0_rounds 22 = .ok (.getfield 10, 3) := dk_180 0 10 (dk_at dksX0_rounds_1 0 rfl rfl)
theorem dX0_rounds_25 : decode cX0_rounds 25 = .ok (.getfield 106, 3) := dk_180 0 106 (dk_at dksX0_rounds_1 3 rfl rfl)
theorem dX0_rounds_28 : decode cX0_rounds 28 = .ok (.iload_n 1, 1) := dk_27 (dk_at dksX0_rounds_1 6 rfl rfl)
theorem dX0_rounds_29 : decode cX0_rounds 29 = .ok (.invokevirtual 110, 3) := dk_182 0 110 (dk_at dksX0_rounds_1 7 rfl rfl)
theorem dX0_rounds_32 : decode cX0_rounds 32 = .ok (.checkcast 116, 3) := dk_192 0 116 (dk_at dksX0_rounds_1 10 rfl rfl)
theorem dX0_rounds_35 : decode cX0_rounds 35 = .ok (.astore_n 3, 1) := dk_78 (dk_at dksX0_rounds_1 13 rfl rfl)
theorem dX0_rounds_36 : decode cX0_rounds 36 = .ok (.aload_n 3, 1) := dk_45 (dk_at dksX0_rounds_1 14 rfl rfl)
theorem dX0_rounds_37 : decode cX0_rounds 37 = .ok (.iload_n 2, 1) := dk_28 (dk_at dksX0_rounds_1 15 rfl rfl)
theorem dX0_rounds_38 : decode cX0_rounds 38 = .ok (.invokevirtual 140, 3) := dk_182 0 140 (dk_at dksX0_rounds_1 16 rfl rfl)
theorem dX0_rounds_41 : decode cX0_rounds 41 = .ok (.ifCond .eq 8, 3) := dk_153 0 8 (dk_at dksX0_rounds_1 19 rfl rfl)
theorem dX0_rounds_44 : decode cX0_rounds 44 = .ok (.bipush (-15), 2) := dk_16 241 (dk_at dksX0_rounds_1 22 rfl rfl)
theorem dX0_rounds_46 : decode cX0_rounds 46 = .ok (.goto 8, 3) := dk_167 0 8 (dk_at dksX0_rounds_2 0 rfl rfl)
theorem dX0_rounds_49 : decode cX0_rounds 49 = .ok (.aload_n 3, 1) := dk_45 (dk_at dksX0_rounds_2 3 rfl rfl)
theorem dX0_rounds_50 : decode cX0_rounds 50 = .ok (.iload_n 2, 1) := dk_28 (dk_at dksX0_rounds_2 4 rfl rfl)
theorem dX0_rounds_51 : decode cX0_rounds 51 = .ok (.invokevirtual 143, 3) := dk_182 0 143 (dk_at dksX0_rounds_2 5 rfl rfl)
theorem dX0_rounds_54 : decode cX0_rounds 54 = .ok (.ireturn, 1) := dk_172 (dk_at dksX0_rounds_2 8 rfl rfl)
abbrev cX0_roundsAgain : ByteArray := prog_1_method_21_code
def yX0_roundsAgain : MethodName := ⟨RX0, "roundsAgain", "(II)I"⟩
def dkwX0_roundsAgain_2 : List UInt8 := [167, 0, 8, 45, 28, 182, 0, 146, 172]
abbrev dktX0_roundsAgain_2 : List UInt8 := dkwX0_roundsAgain_2 ++ []
def dkwX0_roundsAgain_1 : List UInt8 := [180, 0, 10, 180, 0, 106, 27, 182, 0, 110, 192, 0, 116, 78, 45, 28, 182, 0, 140, 153, 0, 8, 16, 241]
abbrev dktX0_roundsAgain_1 : List UInt8 := dkwX0_roundsAgain_1 ++ dktX0_roundsAgain_2
def dkwX0_roundsAgain_0 : List UInt8 := [42, 180, 0, 10, 27, 182, 0, 96, 153, 0, 10, 28, 184, 0, 82, 154, 0, 6, 16, 245, 172, 42]
abbrev dktX0_roundsAgain_0 : List UInt8 := dkwX0_roundsAgain_0 ++ dktX0_roundsAgain_1
theorem dksX0_roundsAgain_0 : cX0_roundsAgain.data.toList.drop 0 = dktX0_roundsAgain_0 := by decide +kernel
theorem dksX0_roundsAgain_1 : cX0_roundsAgain.data.toList.drop 22 = dktX0_roundsAgain_1 := dk_seg dksX0_roundsAgain_0 22 rfl rfl
theorem dksX0_roundsAgain_2 : cX0_roundsAgain.data.toList.drop 46 = dktX0_roundsAgain_2 := dk_seg dksX0_roundsAgain_1 24 rfl rfl
theorem dX0_roundsAgain_0 : decode cX0_roundsAgain 0 = .ok (.aload_n 0, 1) := dk_42 (dk_at dksX0_roundsAgain_0 0 rfl rfl)
theorem dX0_roundsAgain_1 : decode cX0_roundsAgain 1 = .ok (.getfield 10, 3) := dk_180 0 10 (dk_at dksX0_roundsAgain_0 1 rfl rfl)
theorem dX0_roundsAgain_4 : decode cX0_roundsAgain 4 = .ok (.iload_n 1, 1) := dk_27 (dk_at dksX0_roundsAgain_0 4 rfl rfl)
theorem dX0_roundsAgain_5 : decode cX0_roundsAgain 5 = .ok (.invokevirtual 96, 3) := dk_182 0 96 (dk_at dksX0_roundsAgain_0 5 rfl rfl)
theorem dX0_roundsAgain_8 : decode cX0_roundsAgain 8 = .ok (.ifCond .eq 10, 3) := dk_153 0 10 (dk_at dksX0_roundsAgain_0 8 rfl rfl)
theorem dX0_roundsAgain_11 : decode cX0_roundsAgain 11 = .ok (.iload_n 2, 1) := dk_28 (dk_at dksX0_roundsAgain_0 11 rfl rfl)
theorem dX0_roundsAgain_12 : decode cX0_roundsAgain 12 = .ok (.invokestatic 82, 3) := dk_184 0 82 (dk_at dksX0_roundsAgain_0 12 rfl rfl)
theorem dX0_roundsAgain_15 : decode cX0_roundsAgain 15 = .ok (.ifCond .ne 6, 3) := dk_154 0 6 (dk_at dksX0_roundsAgain_0 15 rfl rfl)
theorem dX0_roundsAgain_18 : decode cX0_roundsAgain 18 = .ok (.bipush (-11), 2) := dk_16 245 (dk_at dksX0_roundsAgain_0 18 rfl rfl)
theorem dX0_roundsAgain_20 : decode cX0_roundsAgain 20 = .ok (.ireturn, 1) := dk_172 (dk_at dksX0_roundsAgain_0 20 rfl rfl)
theorem dX0_roundsAgain_21 : decode cX0_roundsAgain 21 = .ok (.aload_n 0, 1) := dk_42 (dk_at dksX0_roundsAgain_0 21 rfl rfl)
theorem dX0_roundsAgain_22 : decode cX0_roundsAgain 22 = .ok (.getfield 10, 3) := dk_180 0 10 (dk_at dksX0_roundsAgain_1 0 rfl rfl)
theorem dX0_roundsAgain_25 : decode cX0_roundsAgain 25 = .ok (.getfield 106, 3) := dk_180 0 106 (dk_at dksX0_roundsAgain_1 3 rfl rfl)
theorem dX0_roundsAgain_28 : decode cX0_roundsAgain 28 = .ok (.iload_n 1, 1) := dk_27 (dk_at dksX0_roundsAgain_1 6 rfl rfl)
theorem dX0_roundsAgain_29 : decode cX0_roundsAgain 29 = .ok (.invokevirtual 110, 3) := dk_182 0 110 (dk_at dksX0_roundsAgain_1 7 rfl rfl)
theorem dX0_roundsAgain_32 : decode cX0_roundsAgain 32 = .ok (.checkcast 116, 3) := dk_192 0 116 (dk_at dksX0_roundsAgain_1 10 rfl rfl)
theorem dX0_roundsAgain_35 : decode cX0_roundsAgain 35 = .ok (.astore_n 3, 1) := dk_78 (dk_at dksX0_roundsAgain_1 13 rfl rfl)
theorem dX0_roundsAgain_36 : decode cX0_roundsAgain 36 = .ok (.aload_n 3, 1) := dk_45 (dk_at dksX0_roundsAgain_1 14 rfl rfl)
theorem dX0_roundsAgain_37 : decode cX0_roundsAgain 37 = .ok (.iload_n 2, 1) := dk_28 (dk_at dksX0_roundsAgain_1 15 rfl rfl)
theorem dX0_roundsAgain_38 : decode cX0_roundsAgain 38 = .ok (.invokevirtual 140, 3) := dk_182 0 140 (dk_at dksX0_roundsAgain_1 16 rfl rfl)
theorem dX0_roundsAgain_41 : decode cX0_roundsAgain 41 = .ok (.ifCond .eq 8, 3) := dk_153 0 8 (dk_at dksX0_roundsAgain_1 19 rfl rfl)
theorem dX0_roundsAgain_44 : decode cX0_roundsAgain 44 = .ok (.bipush (-15), 2) := dk_16 241 (dk_at dksX0_roundsAgain_1 22 rfl rfl)
theorem dX0_roundsAgain_46 : decode cX0_roundsAgain 46 = .ok (.goto 8, 3) := dk_167 0 8 (dk_at dksX0_roundsAgain_2 0 rfl rfl)
theorem dX0_roundsAgain_49 : decode cX0_roundsAgain 49 = .ok (.aload_n 3, 1) := dk_45 (dk_at dksX0_roundsAgain_2 3 rfl rfl)
theorem dX0_roundsAgain_50 : decode cX0_roundsAgain 50 = .ok (.iload_n 2, 1) := dk_28 (dk_at dksX0_roundsAgain_2 4 rfl rfl)
theorem dX0_roundsAgain_51 : decode cX0_roundsAgain 51 = .ok (.invokevirtual 146, 3) := dk_182 0 146 (dk_at dksX0_roundsAgain_2 5 rfl rfl)
theorem dX0_roundsAgain_54 : decode cX0_roundsAgain 54 = .ok (.ireturn, 1) := dk_172 (dk_at dksX0_roundsAgain_2 8 rfl rfl)
abbrev cX0_would : ByteArray := prog_1_method_22_code
def yX0_would : MethodName := ⟨RX0, "would", "(IIII)I"⟩
def dkwX0_would_3 : List UInt8 := [192, 0, 124, 29, 21, 4, 182, 0, 152, 172]
abbrev dktX0_would_3 : List UInt8 := dkwX0_would_3 ++ []
def dkwX0_would_2 : List UInt8 := [180, 0, 10, 180, 0, 106, 27, 182, 0, 110, 192, 0, 116, 42, 180, 0, 10, 180, 0, 121, 28, 182, 0, 110]
abbrev dktX0_would_2 : List UInt8 := dkwX0_would_2 ++ dktX0_would_3
def dkwX0_would_1 : List UInt8 := [154, 0, 6, 16, 245, 172, 21, 4, 184, 0, 149, 154, 0, 6, 16, 244, 172, 42, 180, 0, 10, 42]
abbrev dktX0_would_1 : List UInt8 := dkwX0_would_1 ++ dktX0_would_2
def dkwX0_would_0 : List UInt8 := [42, 180, 0, 10, 27, 182, 0, 96, 153, 0, 17, 28, 184, 0, 82, 153, 0, 10, 29, 184, 0, 90]
abbrev dktX0_would_0 : List UInt8 := dkwX0_would_0 ++ dktX0_would_1
theorem dksX0_would_0 : cX0_would.data.toList.drop 0 = dktX0_would_0 := by decide +kernel
theorem dksX0_would_1 : cX0_would.data.toList.drop 22 = dktX0_would_1 := dk_seg dksX0_would_0 22 rfl rfl
theorem dksX0_would_2 : cX0_would.data.toList.drop 44 = dktX0_would_2 := dk_seg dksX0_would_1 22 rfl rfl
theorem dksX0_would_3 : cX0_would.data.toList.drop 68 = dktX0_would_3 := dk_seg dksX0_would_2 24 rfl rfl
theorem dX0_would_0 : decode cX0_would 0 = .ok (.aload_n 0, 1) := dk_42 (dk_at dksX0_would_0 0 rfl rfl)
theorem dX0_would_1 : decode cX0_would 1 = .ok (.getfield 10, 3) := dk_180 0 10 (dk_at dksX0_would_0 1 rfl rfl)
theorem dX0_would_4 : decode cX0_would 4 = .ok (.iload_n 1, 1) := dk_27 (dk_at dksX0_would_0 4 rfl rfl)
theorem dX0_would_5 : decode cX0_would 5 = .ok (.invokevirtual 96, 3) := dk_182 0 96 (dk_at dksX0_would_0 5 rfl rfl)
theorem dX0_would_8 : decode cX0_would 8 = .ok (.ifCond .eq 17, 3) := dk_153 0 17 (dk_at dksX0_would_0 8 rfl rfl)
theorem dX0_would_11 : decode cX0_would 11 = .ok (.iload_n 2, 1) := dk_28 (dk_at dksX0_would_0 11 rfl rfl)
theorem dX0_would_12 : decode cX0_would 12 = .ok (.invokestatic 82, 3) := dk_184 0 82 (dk_at dksX0_would_0 12 rfl rfl)
theorem dX0_would_15 : decode cX0_would 15 = .ok (.ifCond .eq 10, 3) := dk_153 0 10 (dk_at dksX0_would_0 15 rfl rfl)
theorem dX0_would_18 : decode cX0_would 18 = .ok (.iload_n 3, 1) := dk_29 (dk_at dksX0_would_0 18 rfl rfl)
theorem dX0_would_19 : decode cX0_would 19 = .ok (.invokestatic 90, 3) := dk_184 0 90 (dk_at dksX0_would_0 19 rfl rfl)
theorem dX0_would_22 : decode cX0_would 22 = .ok (.ifCond .ne 6, 3) := dk_154 0 6 (dk_at dksX0_would_1 0 rfl rfl)
theorem dX0_would_25 : decode cX0_would 25 = .ok (.bipush (-11), 2) := dk_16 245 (dk_at dksX0_would_1 3 rfl rfl)
theorem dX0_would_27 : decode cX0_would 27 = .ok (.ireturn, 1) := dk_172 (dk_at dksX0_would_1 5 rfl rfl)
theorem dX0_would_28 : decode cX0_would 28 = .ok (.iload 4, 2) := dk_21 4 (dk_at dksX0_would_1 6 rfl rfl)
theorem dX0_would_30 : decode cX0_would 30 = .ok (.invokestatic 149, 3) := dk_184 0 149 (dk_at dksX0_would_1 8 rfl rfl)
theorem dX0_would_33 : decode cX0_would 33 = .ok (.ifCond .ne 6, 3) := dk_154 0 6 (dk_at dksX0_would_1 11 rfl rfl)
theorem dX0_would_36 : decode cX0_would 36 = .ok (.bipush (-12), 2) := dk_16 244 (dk_at dksX0_would_1 14 rfl rfl)
theorem dX0_would_38 : decode cX0_would 38 = .ok (.ireturn, 1) := dk_172 (dk_at dksX0_would_1 16 rfl rfl)
theorem dX0_would_39 : decode cX0_would 39 = .ok (.aload_n 0, 1) := dk_42 (dk_at dksX0_would_1 17 rfl rfl)
theorem dX0_would_40 : decode cX0_would 40 = .ok (.getfield 10, 3) := dk_180 0 10 (dk_at dksX0_would_1 18 rfl rfl)
theorem dX0_would_43 : decode cX0_would 43 = .ok (.aload_n 0, 1) := dk_42 (dk_at dksX0_would_1 21 rfl rfl)
theorem dX0_would_44 : decode cX0_would 44 = .ok (.getfield 10, 3) := dk_180 0 10 (dk_at dksX0_would_2 0 rfl rfl)
theorem dX0_would_47 : decode cX0_would 47 = .ok (.getfield 106, 3) := dk_180 0 106 (dk_at dksX0_would_2 3 rfl rfl)
theorem dX0_would_50 : decode cX0_would 50 = .ok (.iload_n 1, 1) := dk_27 (dk_at dksX0_would_2 6 rfl rfl)
theorem dX0_would_51 : decode cX0_would 51 = .ok (.invokevirtual 110, 3) := dk_182 0 110 (dk_at dksX0_would_2 7 rfl rfl)
theorem dX0_would_54 : decode cX0_would 54 = .ok (.checkcast 116, 3) := dk_192 0 116 (dk_at dksX0_would_2 10 rfl rfl)
theorem dX0_would_57 : decode cX0_would 57 = .ok (.aload_n 0, 1) := dk_42 (dk_at dksX0_would_2 13 rfl rfl)
theorem dX0_would_58 : decode cX0_would 58 = .ok (.getfield 10, 3) := dk_180 0 10 (dk_at dksX0_would_2 14 rfl rfl)
theorem dX0_would_61 : decode cX0_would 61 = .ok (.getfield 121, 3) := dk_180 0 121 (dk_at dksX0_would_2 17 rfl rfl)
theorem dX0_would_64 : decode cX0_would 64 = .ok (.iload_n 2, 1) := dk_28 (dk_at dksX0_would_2 20 rfl rfl)
theorem dX0_would_65 : decode cX0_would 65 = .ok (.invokevirtual 110, 3) := dk_182 0 110 (dk_at dksX0_would_2 21 rfl rfl)
theorem dX0_would_68 : decode cX0_would 68 = .ok (.checkcast 124, 3) := dk_192 0 124 (dk_at dksX0_would_3 0 rfl rfl)
theorem dX0_would_71 : decode cX0_would 71 = .ok (.iload_n 3, 1) := dk_29 (dk_at dksX0_would_3 3 rfl rfl)
theorem dX0_would_72 : decode cX0_would 72 = .ok (.iload 4, 2) := dk_21 4 (dk_at dksX0_would_3 4 rfl rfl)
theorem dX0_would_74 : decode cX0_would 74 = .ok (.invokevirtual 152, 3) := dk_182 0 152 (dk_at dksX0_would_3 6 rfl rfl)
theorem dX0_would_77 : decode cX0_would 77 = .ok (.ireturn, 1) := dk_172 (dk_at dksX0_would_3 9 rfl rfl)
abbrev cX0_isPrice : ByteArray := prog_1_method_5_code
def yX0_isPrice : MethodName := ⟨RX0, "isPrice", "(I)Z"⟩
def dkwX0_isPrice_0 : List UInt8 := [26, 4, 16, 20, 184, 0, 36, 172]
abbrev dktX0_isPrice_0 : List UInt8 := dkwX0_isPrice_0 ++ []
theorem dksX0_isPrice_0 : cX0_isPrice.data.toList.drop 0 = dktX0_isPrice_0 := by decide +kernel
theorem dX0_isPrice_0 : decode cX0_isPrice 0 = .ok (.iload_n 0, 1) := dk_26 (dk_at dksX0_isPrice_0 0 rfl rfl)
theorem dX0_isPrice_1 : decode cX0_isPrice 1 = .ok (.iconst 1, 1) := dk_4 (dk_at dksX0_isPrice_0 1 rfl rfl)
theorem dX0_isPrice_2 : decode cX0_isPrice 2 = .ok (.bipush 20, 2) := dk_16 20 (dk_at dksX0_isPrice_0 2 rfl rfl)
theorem dX0_isPrice_4 : decode cX0_isPrice 4 = .ok (.invokestatic 36, 3) := dk_184 0 36 (dk_at dksX0_isPrice_0 4 rfl rfl)
theorem dX0_isPrice_7 : decode cX0_isPrice 7 = .ok (.ireturn, 1) := dk_172 (dk_at dksX0_isPrice_0 7 rfl rfl)
abbrev cX0_bestHouse : ByteArray := prog_1_method_23_code
def yX0_bestHouse : MethodName := ⟨RX0, "bestHouse", "(III)I"⟩
def dkwX0_bestHouse_2 : List UInt8 := [28, 29, 182, 0, 156, 167, 0, 5, 16, 244, 172]
abbrev dktX0_bestHouse_2 : List UInt8 := dkwX0_bestHouse_2 ++ []
def dkwX0_bestHouse_1 : List UInt8 := [184, 0, 149, 153, 0, 29, 42, 180, 0, 10, 42, 180, 0, 10, 180, 0, 106, 27, 182, 0, 110, 192, 0, 116]
abbrev dktX0_bestHouse_1 : List UInt8 := dkwX0_bestHouse_1 ++ dktX0_bestHouse_2
def dkwX0_bestHouse_0 : List UInt8 := [42, 180, 0, 10, 27, 182, 0, 96, 153, 0, 10, 28, 184, 0, 90, 154, 0, 6, 16, 245, 172, 29]
abbrev dktX0_bestHouse_0 : List UInt8 := dkwX0_bestHouse_0 ++ dktX0_bestHouse_1
theorem dksX0_bestHouse_0 : cX0_bestHouse.data.toList.drop 0 = dktX0_bestHouse_0 := by decide +kernel
theorem dksX0_bestHouse_1 : cX0_bestHouse.data.toList.drop 22 = dktX0_bestHouse_1 := dk_seg dksX0_bestHouse_0 22 rfl rfl
theorem dksX0_bestHouse_2 : cX0_bestHouse.data.toList.drop 46 = dktX0_bestHouse_2 := dk_seg dksX0_bestHouse_1 24 rfl rfl
theorem dX0_bestHouse_0 : decode cX0_bestHouse 0 = .ok (.aload_n 0, 1) := dk_42 (dk_at dksX0_bestHouse_0 0 rfl rfl)
theorem dX0_bestHouse_1 : decode cX0_bestHouse 1 = .ok (.getfield 10, 3) := dk_180 0 10 (dk_at dksX0_bestHouse_0 1 rfl rfl)
theorem dX0_bestHouse_4 : decode cX0_bestHouse 4 = .ok (.iload_n 1, 1) := dk_27 (dk_at dksX0_bestHouse_0 4 rfl rfl)
theorem dX0_bestHouse_5 : decode cX0_bestHouse 5 = .ok (.invokevirtual 96, 3) := dk_182 0 96 (dk_at dksX0_bestHouse_0 5 rfl rfl)
theorem dX0_bestHouse_8 : decode cX0_bestHouse 8 = .ok (.ifCond .eq 10, 3) := dk_153 0 10 (dk_at dksX0_bestHouse_0 8 rfl rfl)
theorem dX0_bestHouse_11 : decode cX0_bestHouse 11 = .ok (.iload_n 2, 1) := dk_28 (dk_at dksX0_bestHouse_0 11 rfl rfl)
theorem dX0_bestHouse_12 : decode cX0_bestHouse 12 = .ok (.invokestatic 90, 3) := dk_184 0 90 (dk_at dksX0_bestHouse_0 12 rfl rfl)
theorem dX0_bestHouse_15 : decode cX0_bestHouse 15 = .ok (.ifCond .ne 6, 3) := dk_154 0 6 (dk_at dksX0_bestHouse_0 15 rfl rfl)
theorem dX0_bestHouse_18 : decode cX0_bestHouse 18 = .ok (.bipush (-11), 2) := dk_16 245 (dk_at dksX0_bestHouse_0 18 rfl rfl)
theorem dX0_bestHouse_20 : decode cX0_bestHouse 20 = .ok (.ireturn, 1) := dk_172 (dk_at dksX0_bestHouse_0 20 rfl rfl)
theorem dX0_bestHouse_21 : decode cX0_bestHouse 21 = .ok (.iload_n 3, 1) := dk_29 (dk_at dksX0_bestHouse_0 21 rfl rfl)
theorem dX0_bestHouse_22 : decode cX0_bestHouse 22 = .ok (.invokestatic 149, 3) := dk_184 0 149 (dk_at dksX0_bestHouse_1 0 rfl rfl)
theorem dX0_bestHouse_25 : decode cX0_bestHouse 25 = .ok (.ifCond .eq 29, 3) := dk_153 0 29 (dk_at dksX0_bestHouse_1 3 rfl rfl)
theorem dX0_bestHouse_28 : decode cX0_bestHouse 28 = .ok (.aload_n 0, 1) := dk_42 (dk_at dksX0_bestHouse_1 6 rfl rfl)
theorem dX0_bestHouse_29 : decode cX0_bestHouse 29 = .ok (.getfield 10, 3) := dk_180 0 10 (dk_at dksX0_bestHouse_1 7 rfl rfl)
theorem dX0_bestHouse_32 : decode cX0_bestHouse 32 = .ok (.aload_n 0, 1) := dk_42 (dk_at dksX0_bestHouse_1 10 rfl rfl)
theorem dX0_bestHouse_33 : decode cX0_bestHouse 33 = .ok (.getfield 10, 3) := dk_180 0 10 (dk_at dksX0_bestHouse_1 11 rfl rfl)
theorem dX0_bestHouse_36 : decode cX0_bestHouse 36 = .ok (.getfield 106, 3) := dk_180 0 106 (dk_at dksX0_bestHouse_1 14 rfl rfl)
theorem dX0_bestHouse_39 : decode cX0_bestHouse 39 = .ok (.iload_n 1, 1) := dk_27 (dk_at dksX0_bestHouse_1 17 rfl rfl)
theorem dX0_bestHouse_40 : decode cX0_bestHouse 40 = .ok (.invokevirtual 110, 3) := dk_182 0 110 (dk_at dksX0_bestHouse_1 18 rfl rfl)
theorem dX0_bestHouse_43 : decode cX0_bestHouse 43 = .ok (.checkcast 116, 3) := dk_192 0 116 (dk_at dksX0_bestHouse_1 21 rfl rfl)
theorem dX0_bestHouse_46 : decode cX0_bestHouse 46 = .ok (.iload_n 2, 1) := dk_28 (dk_at dksX0_bestHouse_2 0 rfl rfl)
theorem dX0_bestHouse_47 : decode cX0_bestHouse 47 = .ok (.iload_n 3, 1) := dk_29 (dk_at dksX0_bestHouse_2 1 rfl rfl)
theorem dX0_bestHouse_48 : decode cX0_bestHouse 48 = .ok (.invokevirtual 156, 3) := dk_182 0 156 (dk_at dksX0_bestHouse_2 2 rfl rfl)
theorem dX0_bestHouse_51 : decode cX0_bestHouse 51 = .ok (.goto 5, 3) := dk_167 0 5 (dk_at dksX0_bestHouse_2 5 rfl rfl)
theorem dX0_bestHouse_54 : decode cX0_bestHouse 54 = .ok (.bipush (-12), 2) := dk_16 244 (dk_at dksX0_bestHouse_2 8 rfl rfl)
theorem dX0_bestHouse_56 : decode cX0_bestHouse 56 = .ok (.ireturn, 1) := dk_172 (dk_at dksX0_bestHouse_2 10 rfl rfl)
abbrev cX0_ring : ByteArray := prog_1_method_24_code
def yX0_ring : MethodName := ⟨RX0, "ring", "(III)I"⟩
def dkwX0_ring_2 : List UInt8 := [180, 0, 10, 27, 28, 29, 182, 0, 160, 182, 0, 74, 172, 58, 5, 42, 25, 5, 182, 0, 78, 172]
abbrev dktX0_ring_2 : List UInt8 := dkwX0_ring_2 ++ []
def dkwX0_ring_1 : List UInt8 := [184, 0, 149, 154, 0, 6, 16, 244, 172, 42, 180, 0, 10, 182, 0, 66, 58, 4, 42, 25, 4, 42]
abbrev dktX0_ring_1 : List UInt8 := dkwX0_ring_1 ++ dktX0_ring_2
def dkwX0_ring_0 : List UInt8 := [42, 180, 0, 10, 27, 182, 0, 96, 153, 0, 10, 28, 184, 0, 90, 154, 0, 6, 16, 245, 172, 29]
abbrev dktX0_ring_0 : List UInt8 := dkwX0_ring_0 ++ dktX0_ring_1
theorem dksX0_ring_0 : cX0_ring.data.toList.drop 0 = dktX0_ring_0 := by decide +kernel
theorem dksX0_ring_1 : cX0_ring.data.toList.drop 22 = dktX0_ring_1 := dk_seg dksX0_ring_0 22 rfl rfl
theorem dksX0_ring_2 : cX0_ring.data.toList.drop 44 = dktX0_ring_2 := dk_seg dksX0_ring_1 22 rfl rfl
theorem dX0_ring_0 : decode cX0_ring 0 = .ok (.aload_n 0, 1) := dk_42 (dk_at dksX0_ring_0 0 rfl rfl)
theorem dX0_ring_1 : decode cX0_ring 1 = .ok (.getfield 10, 3) := dk_180 0 10 (dk_at dksX0_ring_0 1 rfl rfl)
theorem dX0_ring_4 : decode cX0_ring 4 = .ok (.iload_n 1, 1) := dk_27 (dk_at dksX0_ring_0 4 rfl rfl)
theorem dX0_ring_5 : decode cX0_ring 5 = .ok (.invokevirtual 96, 3) := dk_182 0 96 (dk_at dksX0_ring_0 5 rfl rfl)
theorem dX0_ring_8 : decode cX0_ring 8 = .ok (.ifCond .eq 10, 3) := dk_153 0 10 (dk_at dksX0_ring_0 8 rfl rfl)
theorem dX0_ring_11 : decode cX0_ring 11 = .ok (.iload_n 2, 1) := dk_28 (dk_at dksX0_ring_0 11 rfl rfl)
theorem dX0_ring_12 : decode cX0_ring 12 = .ok (.invokestatic 90, 3) := dk_184 0 90 (dk_at dksX0_ring_0 12 rfl rfl)
theorem dX0_ring_15 : decode cX0_ring 15 = .ok (.ifCond .ne 6, 3) := dk_154 0 6 (dk_at dksX0_ring_0 15 rfl rfl)
theorem dX0_ring_18 : decode cX0_ring 18 = .ok (.bipush (-11), 2) := dk_16 245 (dk_at dksX0_ring_0 18 rfl rfl)
theorem dX0_ring_20 : decode cX0_ring 20 = .ok (.ireturn, 1) := dk_172 (dk_at dksX0_ring_0 20 rfl rfl)
theorem dX0_ring_21 : decode cX0_ring 21 = .ok (.iload_n 3, 1) := dk_29 (dk_at dksX0_ring_0 21 rfl rfl)
theorem dX0_ring_22 : decode cX0_ring 22 = .ok (.invokestatic 149, 3) := dk_184 0 149 (dk_at dksX0_ring_1 0 rfl rfl)
theorem dX0_ring_25 : decode cX0_ring 25 = .ok (.ifCond .ne 6, 3) := dk_154 0 6 (dk_at dksX0_ring_1 3 rfl rfl)
theorem dX0_ring_28 : decode cX0_ring 28 = .ok (.bipush (-12), 2) := dk_16 244 (dk_at dksX0_ring_1 6 rfl rfl)
theorem dX0_ring_30 : decode cX0_ring 30 = .ok (.ireturn, 1) := dk_172 (dk_at dksX0_ring_1 8 rfl rfl)
theorem dX0_ring_31 : decode cX0_ring 31 = .ok (.aload_n 0, 1) := dk_42 (dk_at dksX0_ring_1 9 rfl rfl)
theorem dX0_ring_32 : decode cX0_ring 32 = .ok (.getfield 10, 3) := dk_180 0 10 (dk_at dksX0_ring_1 10 rfl rfl)
theorem dX0_ring_35 : decode cX0_ring 35 = .ok (.invokevirtual 66, 3) := dk_182 0 66 (dk_at dksX0_ring_1 13 rfl rfl)
theorem dX0_ring_38 : decode cX0_ring 38 = .ok (.astore 4, 2) := dk_58 4 (dk_at dksX0_ring_1 16 rfl rfl)
theorem dX0_ring_40 : decode cX0_ring 40 = .ok (.aload_n 0, 1) := dk_42 (dk_at dksX0_ring_1 18 rfl rfl)
theorem dX0_ring_41 : decode cX0_ring 41 = .ok (.aload 4, 2) := dk_25 4 (dk_at dksX0_ring_1 19 rfl rfl)
theorem dX0_ring_43 : decode cX0_ring 43 = .ok (.aload_n 0, 1) := dk_42 (dk_at dksX0_ring_1 21 rfl rfl)
theorem dX0_ring_44 : decode cX0_ring 44 = .ok (.getfield 10, 3) := dk_180 0 10 (dk_at dksX0_ring_2 0 rfl rfl)
theorem dX0_ring_47 : decode cX0_ring 47 = .ok (.iload_n 1, 1) := dk_27 (dk_at dksX0_ring_2 3 rfl rfl)
theorem dX0_ring_48 : decode cX0_ring 48 = .ok (.iload_n 2, 1) := dk_28 (dk_at dksX0_ring_2 4 rfl rfl)
theorem dX0_ring_49 : decode cX0_ring 49 = .ok (.iload_n 3, 1) := dk_29 (dk_at dksX0_ring_2 5 rfl rfl)
theorem dX0_ring_50 : decode cX0_ring 50 = .ok (.invokevirtual 160, 3) := dk_182 0 160 (dk_at dksX0_ring_2 6 rfl rfl)
theorem dX0_ring_53 : decode cX0_ring 53 = .ok (.invokevirtual 74, 3) := dk_182 0 74 (dk_at dksX0_ring_2 9 rfl rfl)
theorem dX0_ring_56 : decode cX0_ring 56 = .ok (.ireturn, 1) := dk_172 (dk_at dksX0_ring_2 12 rfl rfl)
theorem dX0_ring_57 : decode cX0_ring 57 = .ok (.astore 5, 2) := dk_58 5 (dk_at dksX0_ring_2 13 rfl rfl)
theorem dX0_ring_59 : decode cX0_ring 59 = .ok (.aload_n 0, 1) := dk_42 (dk_at dksX0_ring_2 15 rfl rfl)
theorem dX0_ring_60 : decode cX0_ring 60 = .ok (.aload 5, 2) := dk_25 5 (dk_at dksX0_ring_2 16 rfl rfl)
theorem dX0_ring_62 : decode cX0_ring 62 = .ok (.invokevirtual 78, 3) := dk_182 0 78 (dk_at dksX0_ring_2 18 rfl rfl)
theorem dX0_ring_65 : decode cX0_ring 65 = .ok (.ireturn, 1) := dk_172 (dk_at dksX0_ring_2 21 rfl rfl)
abbrev cX0_back : ByteArray := prog_1_method_25_code
def yX0_back : MethodName := ⟨RX0, "back", "(I)I"⟩
def dkwX0_back_1 : List UInt8 := [42, 180, 0, 10, 27, 182, 0, 166, 182, 0, 74, 172, 78, 42, 45, 182, 0, 78, 172]
abbrev dktX0_back_1 : List UInt8 := dkwX0_back_1 ++ []
def dkwX0_back_0 : List UInt8 := [42, 180, 0, 10, 27, 182, 0, 163, 154, 0, 6, 16, 245, 172, 42, 180, 0, 10, 182, 0, 66, 77, 42, 44]
abbrev dktX0_back_0 : List UInt8 := dkwX0_back_0 ++ dktX0_back_1
theorem dksX0_back_0 : cX0_back.data.toList.drop 0 = dktX0_back_0 := by decide +kernel
theorem dksX0_back_1 : cX0_back.data.toList.drop 24 = dktX0_back_1 := dk_seg dksX0_back_0 24 rfl rfl
theorem dX0_back_0 : decode cX0_back 0 = .ok (.aload_n 0, 1) := dk_42 (dk_at dksX0_back_0 0 rfl rfl)
theorem dX0_back_1 : decode cX0_back 1 = .ok (.getfield 10, 3) := dk_180 0 10 (dk_at dksX0_back_0 1 rfl rfl)
theorem dX0_back_4 : decode cX0_back 4 = .ok (.iload_n 1, 1) := dk_27 (dk_at dksX0_back_0 4 rfl rfl)
theorem dX0_back_5 : decode cX0_back 5 = .ok (.invokevirtual 163, 3) := dk_182 0 163 (dk_at dksX0_back_0 5 rfl rfl)
theorem dX0_back_8 : decode cX0_back 8 = .ok (.ifCond .ne 6, 3) := dk_154 0 6 (dk_at dksX0_back_0 8 rfl rfl)
theorem dX0_back_11 : decode cX0_back 11 = .ok (.bipush (-11), 2) := dk_16 245 (dk_at dksX0_back_0 11 rfl rfl)
theorem dX0_back_13 : decode cX0_back 13 = .ok (.ireturn, 1) := dk_172 (dk_at dksX0_back_0 13 rfl rfl)
theorem dX0_back_14 : decode cX0_back 14 = .ok (.aload_n 0, 1) := dk_42 (dk_at dksX0_back_0 14 rfl rfl)
theorem dX0_back_15 : decode cX0_back 15 = .ok (.getfield 10, 3) := dk_180 0 10 (dk_at dksX0_back_0 15 rfl rfl)
theorem dX0_back_18 : decode cX0_back 18 = .ok (.invokevirtual 66, 3) := dk_182 0 66 (dk_at dksX0_back_0 18 rfl rfl)
theorem dX0_back_21 : decode cX0_back 21 = .ok (.astore_n 2, 1) := dk_77 (dk_at dksX0_back_0 21 rfl rfl)
theorem dX0_back_22 : decode cX0_back 22 = .ok (.aload_n 0, 1) := dk_42 (dk_at dksX0_back_0 22 rfl rfl)
theorem dX0_back_23 : decode cX0_back 23 = .ok (.aload_n 2, 1) := dk_44 (dk_at dksX0_back_0 23 rfl rfl)
theorem dX0_back_24 : decode cX0_back 24 = .ok (.aload_n 0, 1) := dk_42 (dk_at dksX0_back_1 0 rfl rfl)
theorem dX0_back_25 : decode cX0_back 25 = .ok (.getfield 10, 3) := dk_180 0 10 (dk_at dksX0_back_1 1 rfl rfl)
theorem dX0_back_28 : decode cX0_back 28 = .ok (.iload_n 1, 1) := dk_27 (dk_at dksX0_back_1 4 rfl rfl)
theorem dX0_back_29 : decode cX0_back 29 = .ok (.invokevirtual 166, 3) := dk_182 0 166 (dk_at dksX0_back_1 5 rfl rfl)
theorem dX0_back_32 : decode cX0_back 32 = .ok (.invokevirtual 74, 3) := dk_182 0 74 (dk_at dksX0_back_1 8 rfl rfl)
theorem dX0_back_35 : decode cX0_back 35 = .ok (.ireturn, 1) := dk_172 (dk_at dksX0_back_1 11 rfl rfl)
theorem dX0_back_36 : decode cX0_back 36 = .ok (.astore_n 3, 1) := dk_78 (dk_at dksX0_back_1 12 rfl rfl)
theorem dX0_back_37 : decode cX0_back 37 = .ok (.aload_n 0, 1) := dk_42 (dk_at dksX0_back_1 13 rfl rfl)
theorem dX0_back_38 : decode cX0_back 38 = .ok (.aload_n 3, 1) := dk_45 (dk_at dksX0_back_1 14 rfl rfl)
theorem dX0_back_39 : decode cX0_back 39 = .ok (.invokevirtual 78, 3) := dk_182 0 78 (dk_at dksX0_back_1 15 rfl rfl)
theorem dX0_back_42 : decode cX0_back 42 = .ok (.ireturn, 1) := dk_172 (dk_at dksX0_back_1 18 rfl rfl)
abbrev cX0_saleOf : ByteArray := prog_1_method_26_code
def yX0_saleOf : MethodName := ⟨RX0, "saleOf", "(II)I"⟩
def dkwX0_saleOf_1 : List UInt8 := [192, 0, 176, 28, 182, 0, 178, 167, 0, 5, 16, 245, 172]
abbrev dktX0_saleOf_1 : List UInt8 := dkwX0_saleOf_1 ++ []
def dkwX0_saleOf_0 : List UInt8 := [42, 180, 0, 10, 27, 182, 0, 163, 153, 0, 24, 42, 180, 0, 10, 180, 0, 169, 27, 182, 0, 173]
abbrev dktX0_saleOf_0 : List UInt8 := dkwX0_saleOf_0 ++ dktX0_saleOf_1
theorem dksX0_saleOf_0 : cX0_saleOf.data.toList.drop 0 = dktX0_saleOf_0 := by decide +kernel
theorem dksX0_saleOf_1 : cX0_saleOf.data.toList.drop 22 = dktX0_saleOf_1 := dk_seg dksX0_saleOf_0 22 rfl rfl
theorem dX0_saleOf_0 : decode cX0_saleOf 0 = .ok (.aload_n 0, 1) := dk_42 (dk_at dksX0_saleOf_0 0 rfl rfl)
theorem dX0_saleOf_1 : decode cX0_saleOf 1 = .ok (.getfield 10, 3) := dk_180 0 10 (dk_at dksX0_saleOf_0 1 rfl rfl)
theorem dX0_saleOf_4 : decode cX0_saleOf 4 = .ok (.iload_n 1, 1) := dk_27 (dk_at dksX0_saleOf_0 4 rfl rfl)
theorem dX0_saleOf_5 : decode cX0_saleOf 5 = .ok (.invokevirtual 163, 3) := dk_182 0 163 (dk_at dksX0_saleOf_0 5 rfl rfl)
theorem dX0_saleOf_8 : decode cX0_saleOf 8 = .ok (.ifCond .eq 24, 3) := dk_153 0 24 (dk_at dksX0_saleOf_0 8 rfl rfl)
theorem dX0_saleOf_11 : decode cX0_saleOf 11 = .ok (.aload_n 0, 1) := dk_42 (dk_at dksX0_saleOf_0 11 rfl rfl)
theorem dX0_saleOf_12 : decode cX0_saleOf 12 = .ok (.getfield 10, 3) := dk_180 0 10 (dk_at dksX0_saleOf_0 12 rfl rfl)
theorem dX0_saleOf_15 : decode cX0_saleOf 15 = .ok (.getfield 169, 3) := dk_180 0 169 (dk_at dksX0_saleOf_0 15 rfl rfl)
theorem dX0_saleOf_18 : decode cX0_saleOf 18 = .ok (.iload_n 1, 1) := dk_27 (dk_at dksX0_saleOf_0 18 rfl rfl)
theorem dX0_saleOf_19 : decode cX0_saleOf 19 = .ok (.invokevirtual 173, 3) := dk_182 0 173 (dk_at dksX0_saleOf_0 19 rfl rfl)
theorem dX0_saleOf_22 : decode cX0_saleOf 22 = .ok (.checkcast 176, 3) := dk_192 0 176 (dk_at dksX0_saleOf_1 0 rfl rfl)
theorem dX0_saleOf_25 : decode cX0_saleOf 25 = .ok (.iload_n 2, 1) := dk_28 (dk_at dksX0_saleOf_1 3 rfl rfl)
theorem dX0_saleOf_26 : decode cX0_saleOf 26 = .ok (.invokevirtual 178, 3) := dk_182 0 178 (dk_at dksX0_saleOf_1 4 rfl rfl)
theorem dX0_saleOf_29 : decode cX0_saleOf 29 = .ok (.goto 5, 3) := dk_167 0 5 (dk_at dksX0_saleOf_1 7 rfl rfl)
theorem dX0_saleOf_32 : decode cX0_saleOf 32 = .ok (.bipush (-11), 2) := dk_16 245 (dk_at dksX0_saleOf_1 10 rfl rfl)
theorem dX0_saleOf_34 : decode cX0_saleOf 34 = .ok (.ireturn, 1) := dk_172 (dk_at dksX0_saleOf_1 12 rfl rfl)
abbrev cX0_day : ByteArray := prog_1_method_27_code
def yX0_day : MethodName := ⟨RX0, "day", "()I"⟩
def dkwX0_day_0 : List UInt8 := [42, 180, 0, 10, 182, 0, 66, 76, 42, 43, 42, 180, 0, 10, 182, 0, 179, 182, 0, 74, 172]
abbrev dktX0_day_0 : List UInt8 := dkwX0_day_0 ++ []
theorem dksX0_day_0 : cX0_day.data.toList.drop 0 = dktX0_day_0 := by decide +kernel
theorem dX0_day_0 : decode cX0_day 0 = .ok (.aload_n 0, 1) := dk_42 (dk_at dksX0_day_0 0 rfl rfl)
theorem dX0_day_1 : decode cX0_day 1 = .ok (.getfield 10, 3) := dk_180 0 10 (dk_at dksX0_day_0 1 rfl rfl)
theorem dX0_day_4 : decode cX0_day 4 = .ok (.invokevirtual 66, 3) := dk_182 0 66 (dk_at dksX0_day_0 4 rfl rfl)
theorem dX0_day_7 : decode cX0_day 7 = .ok (.astore_n 1, 1) := dk_76 (dk_at dksX0_day_0 7 rfl rfl)
theorem dX0_day_8 : decode cX0_day 8 = .ok (.aload_n 0, 1) := dk_42 (dk_at dksX0_day_0 8 rfl rfl)
theorem dX0_day_9 : decode cX0_day 9 = .ok (.aload_n 1, 1) := dk_43 (dk_at dksX0_day_0 9 rfl rfl)
theorem dX0_day_10 : decode cX0_day 10 = .ok (.aload_n 0, 1) := dk_42 (dk_at dksX0_day_0 10 rfl rfl)
theorem dX0_day_11 : decode cX0_day 11 = .ok (.getfield 10, 3) := dk_180 0 10 (dk_at dksX0_day_0 11 rfl rfl)
theorem dX0_day_14 : decode cX0_day 14 = .ok (.invokevirtual 179, 3) := dk_182 0 179 (dk_at dksX0_day_0 14 rfl rfl)
theorem dX0_day_17 : decode cX0_day 17 = .ok (.invokevirtual 74, 3) := dk_182 0 74 (dk_at dksX0_day_0 17 rfl rfl)
theorem dX0_day_20 : decode cX0_day 20 = .ok (.ireturn, 1) := dk_172 (dk_at dksX0_day_0 20 rfl rfl)
abbrev cX0_append : ByteArray := prog_1_method_28_code
def yX0_append : MethodName := ⟨RX0, "append", "(I)I"⟩
def dkwX0_append_1 : List UInt8 := [160, 0, 6, 16, 243, 172, 42, 180, 0, 26, 27, 146, 182, 0, 185, 87, 42, 180, 0, 26, 182, 0, 182, 172]
abbrev dktX0_append_1 : List UInt8 := dkwX0_append_1 ++ []
def dkwX0_append_0 : List UInt8 := [27, 16, 32, 16, 126, 184, 0, 36, 154, 0, 6, 16, 244, 172, 42, 180, 0, 26, 182, 0, 182, 16, 60]
abbrev dktX0_append_0 : List UInt8 := dkwX0_append_0 ++ dktX0_append_1
theorem dksX0_append_0 : cX0_append.data.toList.drop 0 = dktX0_append_0 := by decide +kernel
theorem dksX0_append_1 : cX0_append.data.toList.drop 23 = dktX0_append_1 := dk_seg dksX0_append_0 23 rfl rfl
theorem dX0_append_0 : decode cX0_append 0 = .ok (.iload_n 1, 1) := dk_27 (dk_at dksX0_append_0 0 rfl rfl)
theorem dX0_append_1 : decode cX0_append 1 = .ok (.bipush 32, 2) := dk_16 32 (dk_at dksX0_append_0 1 rfl rfl)
theorem dX0_append_3 : decode cX0_append 3 = .ok (.bipush 126, 2) := dk_16 126 (dk_at dksX0_append_0 3 rfl rfl)
theorem dX0_append_5 : decode cX0_append 5 = .ok (.invokestatic 36, 3) := dk_184 0 36 (dk_at dksX0_append_0 5 rfl rfl)
theorem dX0_append_8 : decode cX0_append 8 = .ok (.ifCond .ne 6, 3) := dk_154 0 6 (dk_at dksX0_append_0 8 rfl rfl)
theorem dX0_append_11 : decode cX0_append 11 = .ok (.bipush (-12), 2) := dk_16 244 (dk_at dksX0_append_0 11 rfl rfl)
theorem dX0_append_13 : decode cX0_append 13 = .ok (.ireturn, 1) := dk_172 (dk_at dksX0_append_0 13 rfl rfl)
theorem dX0_append_14 : decode cX0_append 14 = .ok (.aload_n 0, 1) := dk_42 (dk_at dksX0_append_0 14 rfl rfl)
theorem dX0_append_15 : decode cX0_append 15 = .ok (.getfield 26, 3) := dk_180 0 26 (dk_at dksX0_append_0 15 rfl rfl)
theorem dX0_append_18 : decode cX0_append 18 = .ok (.invokevirtual 182, 3) := dk_182 0 182 (dk_at dksX0_append_0 18 rfl rfl)
theorem dX0_append_21 : decode cX0_append 21 = .ok (.bipush 60, 2) := dk_16 60 (dk_at dksX0_append_0 21 rfl rfl)
theorem dX0_append_23 : decode cX0_append 23 = .ok (.if_icmp .ne 6, 3) := dk_160 0 6 (dk_at dksX0_append_1 0 rfl rfl)
theorem dX0_append_26 : decode cX0_append 26 = .ok (.bipush (-13), 2) := dk_16 243 (dk_at dksX0_append_1 3 rfl rfl)
theorem dX0_append_28 : decode cX0_append 28 = .ok (.ireturn, 1) := dk_172 (dk_at dksX0_append_1 5 rfl rfl)
theorem dX0_append_29 : decode cX0_append 29 = .ok (.aload_n 0, 1) := dk_42 (dk_at dksX0_append_1 6 rfl rfl)
theorem dX0_append_30 : decode cX0_append 30 = .ok (.getfield 26, 3) := dk_180 0 26 (dk_at dksX0_append_1 7 rfl rfl)
theorem dX0_append_33 : decode cX0_append 33 = .ok (.iload_n 1, 1) := dk_27 (dk_at dksX0_append_1 10 rfl rfl)
theorem dX0_append_34 : decode cX0_append 34 = .ok (.i2c, 1) := dk_146 (dk_at dksX0_append_1 11 rfl rfl)
theorem dX0_append_35 : decode cX0_append 35 = .ok (.invokevirtual 185, 3) := dk_182 0 185 (dk_at dksX0_append_1 12 rfl rfl)
theorem dX0_append_38 : decode cX0_append 38 = .ok (.pop, 1) := dk_87 (dk_at dksX0_append_1 15 rfl rfl)
theorem dX0_append_39 : decode cX0_append 39 = .ok (.aload_n 0, 1) := dk_42 (dk_at dksX0_append_1 16 rfl rfl)
theorem dX0_append_40 : decode cX0_append 40 = .ok (.getfield 26, 3) := dk_180 0 26 (dk_at dksX0_append_1 17 rfl rfl)
theorem dX0_append_43 : decode cX0_append 43 = .ok (.invokevirtual 182, 3) := dk_182 0 182 (dk_at dksX0_append_1 20 rfl rfl)
theorem dX0_append_46 : decode cX0_append 46 = .ok (.ireturn, 1) := dk_172 (dk_at dksX0_append_1 23 rfl rfl)
abbrev cX0_run : ByteArray := prog_1_method_29_code
def yX0_run : MethodName := ⟨RX0, "run", "()I"⟩
def dkwX0_run_6 : List UInt8 := [182, 0, 221, 28, 172, 58, 6, 42, 180, 0, 26, 3, 182, 0, 221, 25, 6, 191]
abbrev dktX0_run_6 : List UInt8 := dkwX0_run_6 ++ []
def dkwX0_run_5 : List UInt8 := [100, 61, 42, 180, 0, 26, 3, 182, 0, 221, 28, 172, 76, 42, 43, 182, 0, 78, 61, 42, 180, 0, 26, 3]
abbrev dktX0_run_5 : List UInt8 := dkwX0_run_5 ++ dktX0_run_6
def dkwX0_run_4 : List UInt8 := [182, 0, 74, 54, 5, 42, 180, 0, 26, 3, 182, 0, 221, 21, 5, 172, 76, 17, 252, 24, 43, 180, 0, 227]
abbrev dktX0_run_4 : List UInt8 := dkwX0_run_4 ++ dktX0_run_5
def dkwX0_run_3 : List UInt8 := [184, 0, 217, 132, 3, 1, 167, 255, 211, 42, 180, 0, 10, 58, 4, 42, 44, 181, 0, 10, 42, 25, 4, 29]
abbrev dktX0_run_3 : List UInt8 := dkwX0_run_3 ++ dktX0_run_4
def dkwX0_run_2 : List UInt8 := [192, 0, 211, 58, 5, 25, 5, 44, 182, 0, 213, 154, 0, 7, 4, 167, 0, 4, 3, 16, 14, 29]
abbrev dktX0_run_2 : List UInt8 := dkwX0_run_2 ++ dktX0_run_3
def dkwX0_run_1 : List UInt8 := [62, 43, 182, 0, 198, 58, 4, 25, 4, 185, 0, 202, 1, 0, 153, 0, 41, 25, 4, 185, 0, 208, 1, 0]
abbrev dktX0_run_1 : List UInt8 := dkwX0_run_1 ++ dktX0_run_2
def dkwX0_run_0 : List UInt8 := [187, 0, 189, 89, 42, 180, 0, 26, 183, 0, 191, 182, 0, 194, 76, 42, 180, 0, 10, 182, 0, 66, 77, 3]
abbrev dktX0_run_0 : List UInt8 := dkwX0_run_0 ++ dktX0_run_1
theorem dksX0_run_0 : cX0_run.data.toList.drop 0 = dktX0_run_0 := by decide +kernel
theorem dksX0_run_1 : cX0_run.data.toList.drop 24 = dktX0_run_1 := dk_seg dksX0_run_0 24 rfl rfl
theorem dksX0_run_2 : cX0_run.data.toList.drop 48 = dktX0_run_2 := dk_seg dksX0_run_1 24 rfl rfl
theorem dksX0_run_3 : cX0_run.data.toList.drop 70 = dktX0_run_3 := dk_seg dksX0_run_2 22 rfl rfl
theorem dksX0_run_4 : cX0_run.data.toList.drop 94 = dktX0_run_4 := dk_seg dksX0_run_3 24 rfl rfl
theorem dksX0_run_5 : cX0_run.data.toList.drop 118 = dktX0_run_5 := dk_seg dksX0_run_4 24 rfl rfl
theorem dksX0_run_6 : cX0_run.data.toList.drop 142 = dktX0_run_6 := dk_seg dksX0_run_5 24 rfl rfl
theorem dX0_run_0 : decode cX0_run 0 = .ok (.new 189, 3) := dk_187 0 189 (dk_at dksX0_run_0 0 rfl rfl)
theorem dX0_run_3 : decode cX0_run 3 = .ok (.dup, 1) := dk_89 (dk_at dksX0_run_0 3 rfl rfl)
theorem dX0_run_4 : decode cX0_run 4 = .ok (.aload_n 0, 1) := dk_42 (dk_at dksX0_run_0 4 rfl rfl)
theorem dX0_run_5 : decode cX0_run 5 = .ok (.getfield 26, 3) := dk_180 0 26 (dk_at dksX0_run_0 5 rfl rfl)
theorem dX0_run_8 : decode cX0_run 8 = .ok (.invokespecial 191, 3) := dk_183 0 191 (dk_at dksX0_run_0 8 rfl rfl)
theorem dX0_run_11 : decode cX0_run 11 = .ok (.invokevirtual 194, 3) := dk_182 0 194 (dk_at dksX0_run_0 11 rfl rfl)
theorem dX0_run_14 : decode cX0_run 14 = .ok (.astore_n 1, 1) := dk_76 (dk_at dksX0_run_0 14 rfl rfl)
theorem dX0_run_15 : decode cX0_run 15 = .ok (.aload_n 0, 1) := dk_42 (dk_at dksX0_run_0 15 rfl rfl)
theorem dX0_run_16 : decode cX0_run 16 = .ok (.getfield 10, 3) := dk_180 0 10 (dk_at dksX0_run_0 16 rfl rfl)
theorem dX0_run_19 : decode cX0_run 19 = .ok (.invokevirtual 66, 3) := dk_182 0 66 (dk_at dksX0_run_0 19 rfl rfl)
theorem dX0_run_22 : decode cX0_run 22 = .ok (.astore_n 2, 1) := dk_77 (dk_at dksX0_run_0 22 rfl rfl)
theorem dX0_run_23 : decode cX0_run 23 = .ok (.iconst 0, 1) := dk_3 (dk_at dksX0_run_0 23 rfl rfl)
theorem dX0_run_24 : decode cX0_run 24 = .ok (.istore_n 3, 1) := dk_62 (dk_at dksX0_run_1 0 rfl rfl)
theorem dX0_run_25 : decode cX0_run 25 = .ok (.aload_n 1, 1) := dk_43 (dk_at dksX0_run_1 1 rfl rfl)
theorem dX0_run_26 : decode cX0_run 26 = .ok (.invokevirtual 198, 3) := dk_182 0 198 (dk_at dksX0_run_1 2 rfl rfl)
theorem dX0_run_29 : decode cX0_run 29 = .ok (.astore 4, 2) := dk_58 4 (dk_at dksX0_run_1 5 rfl rfl)
theorem dX0_run_31 : decode cX0_run 31 = .ok (.aload 4, 2) := dk_25 4 (dk_at dksX0_run_1 7 rfl rfl)
theorem dX0_run_33 : decode cX0_run 33 = .ok (.invokeinterface 202 1, 5) := by decide +kernel
theorem dX0_run_38 : decode cX0_run 38 = .ok (.ifCond .eq 41, 3) := dk_153 0 41 (dk_at dksX0_run_1 14 rfl rfl)
theorem dX0_run_41 : decode cX0_run 41 = .ok (.aload 4, 2) := dk_25 4 (dk_at dksX0_run_1 17 rfl rfl)
theorem dX0_run_43 : decode cX0_run 43 = .ok (.invokeinterface 208 1, 5) := by decide +kernel
theorem dX0_run_48 : decode cX0_run 48 = .ok (.checkcast 211, 3) := dk_192 0 211 (dk_at dksX0_run_2 0 rfl rfl)
theorem dX0_run_51 : decode cX0_run 51 = .ok (.astore 5, 2) := dk_58 5 (dk_at dksX0_run_2 3 rfl rfl)
theorem dX0_run_53 : decode cX0_run 53 = .ok (.aload 5, 2) := dk_25 5 (dk_at dksX0_run_2 5 rfl rfl)
theorem dX0_run_55 : decode cX0_run 55 = .ok (.aload_n 2, 1) := dk_44 (dk_at dksX0_run_2 7 rfl rfl)
theorem dX0_run_56 : decode cX0_run 56 = .ok (.invokevirtual 213, 3) := dk_182 0 213 (dk_at dksX0_run_2 8 rfl rfl)
theorem dX0_run_59 : decode cX0_run 59 = .ok (.ifCond .ne 7, 3) := dk_154 0 7 (dk_at dksX0_run_2 11 rfl rfl)
theorem dX0_run_62 : decode cX0_run 62 = .ok (.iconst 1, 1) := dk_4 (dk_at dksX0_run_2 14 rfl rfl)
theorem dX0_run_63 : decode cX0_run 63 = .ok (.goto 4, 3) := dk_167 0 4 (dk_at dksX0_run_2 15 rfl rfl)
theorem dX0_run_66 : decode cX0_run 66 = .ok (.iconst 0, 1) := dk_3 (dk_at dksX0_run_2 18 rfl rfl)
theorem dX0_run_67 : decode cX0_run 67 = .ok (.bipush 14, 2) := dk_16 14 (dk_at dksX0_run_2 19 rfl rfl)
theorem dX0_run_69 : decode cX0_run 69 = .ok (.iload_n 3, 1) := dk_29 (dk_at dksX0_run_2 21 rfl rfl)
theorem dX0_run_70 : decode cX0_run 70 = .ok (.invokestatic 217, 3) := dk_184 0 217 (dk_at dksX0_run_3 0 rfl rfl)
theorem dX0_run_73 : decode cX0_run 73 = .ok (.iinc 3 1, 3) := dk_132 3 1 (dk_at dksX0_run_3 3 rfl rfl)
theorem dX0_run_76 : decode cX0_run 76 = .ok (.goto (-45), 3) := dk_167 255 211 (dk_at dksX0_run_3 6 rfl rfl)
theorem dX0_run_79 : decode cX0_run 79 = .ok (.aload_n 0, 1) := dk_42 (dk_at dksX0_run_3 9 rfl rfl)
theorem dX0_run_80 : decode cX0_run 80 = .ok (.getfield 10, 3) := dk_180 0 10 (dk_at dksX0_run_3 10 rfl rfl)
theorem dX0_run_83 : decode cX0_run 83 = .ok (.astore 4, 2) := dk_58 4 (dk_at dksX0_run_3 13 rfl rfl)
theorem dX0_run_85 : decode cX0_run 85 = .ok (.aload_n 0, 1) := dk_42 (dk_at dksX0_run_3 15 rfl rfl)
theorem dX0_run_86 : decode cX0_run 86 = .ok (.aload_n 2, 1) := dk_44 (dk_at dksX0_run_3 16 rfl rfl)
theorem dX0_run_87 : decode cX0_run 87 = .ok (.putfield 10, 3) := dk_181 0 10 (dk_at dksX0_run_3 17 rfl rfl)
theorem dX0_run_90 : decode cX0_run 90 = .ok (.aload_n 0, 1) := dk_42 (dk_at dksX0_run_3 20 rfl rfl)
theorem dX0_run_91 : decode cX0_run 91 = .ok (.aload 4, 2) := dk_25 4 (dk_at dksX0_run_3 21 rfl rfl)
theorem dX0_run_93 : decode cX0_run 93 = .ok (.iload_n 3, 1) := dk_29 (dk_at dksX0_run_3 23 rfl rfl)
theorem dX0_run_94 : decode cX0_run 94 = .ok (.invokevirtual 74, 3) := dk_182 0 74 (dk_at dksX0_run_4 0 rfl rfl)
theorem dX0_run_97 : decode cX0_run 97 = .ok (.istore 5, 2) := dk_54 5 (dk_at dksX0_run_4 3 rfl rfl)
theorem dX0_run_99 : decode cX0_run 99 = .ok (.aload_n 0, 1) := dk_42 (dk_at dksX0_run_4 5 rfl rfl)
theorem dX0_run_100 : decode cX0_run 100 = .ok (.getfield 26, 3) := dk_180 0 26 (dk_at dksX0_run_4 6 rfl rfl)
theorem dX0_run_103 : decode cX0_run 103 = .ok (.iconst 0, 1) := dk_3 (dk_at dksX0_run_4 9 rfl rfl)
theorem dX0_run_104 : decode cX0_run 104 = .ok (.invokevirtual 221, 3) := dk_182 0 221 (dk_at dksX0_run_4 10 rfl rfl)
theorem dX0_run_107 : decode cX0_run 107 = .ok (.iload 5, 2) := dk_21 5 (dk_at dksX0_run_4 13 rfl rfl)
theorem dX0_run_109 : decode cX0_run 109 = .ok (.ireturn, 1) := dk_172 (dk_at dksX0_run_4 15 rfl rfl)
theorem dX0_run_110 : decode cX0_run 110 = .ok (.astore_n 1, 1) := dk_76 (dk_at dksX0_run_4 16 rfl rfl)
theorem dX0_run_111 : decode cX0_run 111 = .ok (.sipush (-1000), 3) := dk_17 252 24 (dk_at dksX0_run_4 17 rfl rfl)
theorem dX0_run_114 : decode cX0_run 114 = .ok (.aload_n 1, 1) := dk_43 (dk_at dksX0_run_4 20 rfl rfl)
theorem dX0_run_115 : decode cX0_run 115 = .ok (.getfield 227, 3) := dk_180 0 227 (dk_at dksX0_run_4 21 rfl rfl)
theorem dX0_run_118 : decode cX0_run 118 = .ok (.isub, 1) := dk_100 (dk_at dksX0_run_5 0 rfl rfl)
theorem dX0_run_119 : decode cX0_run 119 = .ok (.istore_n 2, 1) := dk_61 (dk_at dksX0_run_5 1 rfl rfl)
theorem dX0_run_120 : decode cX0_run 120 = .ok (.aload_n 0, 1) := dk_42 (dk_at dksX0_run_5 2 rfl rfl)
theorem dX0_run_121 : decode cX0_run 121 = .ok (.getfield 26, 3) := dk_180 0 26 (dk_at dksX0_run_5 3 rfl rfl)
theorem dX0_run_124 : decode cX0_run 124 = .ok (.iconst 0, 1) := dk_3 (dk_at dksX0_run_5 6 rfl rfl)
theorem dX0_run_125 : decode cX0_run 125 = .ok (.invokevirtual 221, 3) := dk_182 0 221 (dk_at dksX0_run_5 7 rfl rfl)
theorem dX0_run_128 : decode cX0_run 128 = .ok (.iload_n 2, 1) := dk_28 (dk_at dksX0_run_5 10 rfl rfl)
theorem dX0_run_129 : decode cX0_run 129 = .ok (.ireturn, 1) := dk_172 (dk_at dksX0_run_5 11 rfl rfl)
theorem dX0_run_130 : decode cX0_run 130 = .ok (.astore_n 1, 1) := dk_76 (dk_at dksX0_run_5 12 rfl rfl)
theorem dX0_run_131 : decode cX0_run 131 = .ok (.aload_n 0, 1) := dk_42 (dk_at dksX0_run_5 13 rfl rfl)
theorem dX0_run_132 : decode cX0_run 132 = .ok (.aload_n 1, 1) := dk_43 (dk_at dksX0_run_5 14 rfl rfl)
theorem dX0_run_133 : decode cX0_run 133 = .ok (.invokevirtual 78, 3) := dk_182 0 78 (dk_at dksX0_run_5 15 rfl rfl)
theorem dX0_run_136 : decode cX0_run 136 = .ok (.istore_n 2, 1) := dk_61 (dk_at dksX0_run_5 18 rfl rfl)
theorem dX0_run_137 : decode cX0_run 137 = .ok (.aload_n 0, 1) := dk_42 (dk_at dksX0_run_5 19 rfl rfl)
theorem dX0_run_138 : decode cX0_run 138 = .ok (.getfield 26, 3) := dk_180 0 26 (dk_at dksX0_run_5 20 rfl rfl)
theorem dX0_run_141 : decode cX0_run 141 = .ok (.iconst 0, 1) := dk_3 (dk_at dksX0_run_5 23 rfl rfl)
theorem dX0_run_142 : decode cX0_run 142 = .ok (.invokevirtual 221, 3) := dk_182 0 221 (dk_at dksX0_run_6 0 rfl rfl)
theorem dX0_run_145 : decode cX0_run 145 = .ok (.iload_n 2, 1) := dk_28 (dk_at dksX0_run_6 3 rfl rfl)
theorem dX0_run_146 : decode cX0_run 146 = .ok (.ireturn, 1) := dk_172 (dk_at dksX0_run_6 4 rfl rfl)
theorem dX0_run_147 : decode cX0_run 147 = .ok (.astore 6, 2) := dk_58 6 (dk_at dksX0_run_6 5 rfl rfl)
theorem dX0_run_149 : decode cX0_run 149 = .ok (.aload_n 0, 1) := dk_42 (dk_at dksX0_run_6 7 rfl rfl)
theorem dX0_run_150 : decode cX0_run 150 = .ok (.getfield 26, 3) := dk_180 0 26 (dk_at dksX0_run_6 8 rfl rfl)
theorem dX0_run_153 : decode cX0_run 153 = .ok (.iconst 0, 1) := dk_3 (dk_at dksX0_run_6 11 rfl rfl)
theorem dX0_run_154 : decode cX0_run 154 = .ok (.invokevirtual 221, 3) := dk_182 0 221 (dk_at dksX0_run_6 12 rfl rfl)
theorem dX0_run_157 : decode cX0_run 157 = .ok (.aload 6, 2) := dk_25 6 (dk_at dksX0_run_6 15 rfl rfl)
theorem dX0_run_159 : decode cX0_run 159 = .ok (.athrow, 1) := dk_191 (dk_at dksX0_run_6 17 rfl rfl)
abbrev cX0_tell : ByteArray := prog_1_method_30_code
def yX0_tell : MethodName := ⟨RX0, "tell", "(I)I"⟩
def dkwX0_tell_1 : List UInt8 := [182, 0, 110, 192, 0, 116, 182, 0, 230, 181, 0, 32, 42, 180, 0, 32, 182, 0, 233, 172]
abbrev dktX0_tell_1 : List UInt8 := dkwX0_tell_1 ++ []
def dkwX0_tell_0 : List UInt8 := [42, 180, 0, 10, 27, 182, 0, 96, 154, 0, 6, 16, 245, 172, 42, 42, 180, 0, 10, 180, 0, 106, 27]
abbrev dktX0_tell_0 : List UInt8 := dkwX0_tell_0 ++ dktX0_tell_1
theorem dksX0_tell_0 : cX0_tell.data.toList.drop 0 = dktX0_tell_0 := by decide +kernel
theorem dksX0_tell_1 : cX0_tell.data.toList.drop 23 = dktX0_tell_1 := dk_seg dksX0_tell_0 23 rfl rfl
theorem dX0_tell_0 : decode cX0_tell 0 = .ok (.aload_n 0, 1) := dk_42 (dk_at dksX0_tell_0 0 rfl rfl)
theorem dX0_tell_1 : decode cX0_tell 1 = .ok (.getfield 10, 3) := dk_180 0 10 (dk_at dksX0_tell_0 1 rfl rfl)
theorem dX0_tell_4 : decode cX0_tell 4 = .ok (.iload_n 1, 1) := dk_27 (dk_at dksX0_tell_0 4 rfl rfl)
theorem dX0_tell_5 : decode cX0_tell 5 = .ok (.invokevirtual 96, 3) := dk_182 0 96 (dk_at dksX0_tell_0 5 rfl rfl)
theorem dX0_tell_8 : decode cX0_tell 8 = .ok (.ifCond .ne 6, 3) := dk_154 0 6 (dk_at dksX0_tell_0 8 rfl rfl)
theorem dX0_tell_11 : decode cX0_tell 11 = .ok (.bipush (-11), 2) := dk_16 245 (dk_at dksX0_tell_0 11 rfl rfl)
theorem dX0_tell_13 : decode cX0_tell 13 = .ok (.ireturn, 1) := dk_172 (dk_at dksX0_tell_0 13 rfl rfl)
theorem dX0_tell_14 : decode cX0_tell 14 = .ok (.aload_n 0, 1) := dk_42 (dk_at dksX0_tell_0 14 rfl rfl)
theorem dX0_tell_15 : decode cX0_tell 15 = .ok (.aload_n 0, 1) := dk_42 (dk_at dksX0_tell_0 15 rfl rfl)
theorem dX0_tell_16 : decode cX0_tell 16 = .ok (.getfield 10, 3) := dk_180 0 10 (dk_at dksX0_tell_0 16 rfl rfl)
theorem dX0_tell_19 : decode cX0_tell 19 = .ok (.getfield 106, 3) := dk_180 0 106 (dk_at dksX0_tell_0 19 rfl rfl)
theorem dX0_tell_22 : decode cX0_tell 22 = .ok (.iload_n 1, 1) := dk_27 (dk_at dksX0_tell_0 22 rfl rfl)
theorem dX0_tell_23 : decode cX0_tell 23 = .ok (.invokevirtual 110, 3) := dk_182 0 110 (dk_at dksX0_tell_1 0 rfl rfl)
theorem dX0_tell_26 : decode cX0_tell 26 = .ok (.checkcast 116, 3) := dk_192 0 116 (dk_at dksX0_tell_1 3 rfl rfl)
theorem dX0_tell_29 : decode cX0_tell 29 = .ok (.invokevirtual 230, 3) := dk_182 0 230 (dk_at dksX0_tell_1 6 rfl rfl)
theorem dX0_tell_32 : decode cX0_tell 32 = .ok (.putfield 32, 3) := dk_181 0 32 (dk_at dksX0_tell_1 9 rfl rfl)
theorem dX0_tell_35 : decode cX0_tell 35 = .ok (.aload_n 0, 1) := dk_42 (dk_at dksX0_tell_1 12 rfl rfl)
theorem dX0_tell_36 : decode cX0_tell 36 = .ok (.getfield 32, 3) := dk_180 0 32 (dk_at dksX0_tell_1 13 rfl rfl)
theorem dX0_tell_39 : decode cX0_tell 39 = .ok (.invokevirtual 233, 3) := dk_182 0 233 (dk_at dksX0_tell_1 16 rfl rfl)
theorem dX0_tell_42 : decode cX0_tell 42 = .ok (.ireturn, 1) := dk_172 (dk_at dksX0_tell_1 19 rfl rfl)
abbrev cX0_tellStreet : ByteArray := prog_1_method_31_code
def yX0_tellStreet : MethodName := ⟨RX0, "tellStreet", "()I"⟩
def dkwX0_tellStreet_0 : List UInt8 := [42, 42, 180, 0, 10, 182, 0, 236, 181, 0, 32, 42, 180, 0, 32, 182, 0, 233, 172]
abbrev dktX0_tellStreet_0 : List UInt8 := dkwX0_tellStreet_0 ++ []
theorem dksX0_tellStreet_0 : cX0_tellStreet.data.toList.drop 0 = dktX0_tellStreet_0 := by decide +kernel
theorem dX0_tellStreet_0 : decode cX0_tellStreet 0 = .ok (.aload_n 0, 1) := dk_42 (dk_at dksX0_tellStreet_0 0 rfl rfl)
theorem dX0_tellStreet_1 : decode cX0_tellStreet 1 = .ok (.aload_n 0, 1) := dk_42 (dk_at dksX0_tellStreet_0 1 rfl rfl)
theorem dX0_tellStreet_2 : decode cX0_tellStreet 2 = .ok (.getfield 10, 3) := dk_180 0 10 (dk_at dksX0_tellStreet_0 2 rfl rfl)
theorem dX0_tellStreet_5 : decode cX0_tellStreet 5 = .ok (.invokevirtual 236, 3) := dk_182 0 236 (dk_at dksX0_tellStreet_0 5 rfl rfl)
theorem dX0_tellStreet_8 : decode cX0_tellStreet 8 = .ok (.putfield 32, 3) := dk_181 0 32 (dk_at dksX0_tellStreet_0 8 rfl rfl)
theorem dX0_tellStreet_11 : decode cX0_tellStreet 11 = .ok (.aload_n 0, 1) := dk_42 (dk_at dksX0_tellStreet_0 11 rfl rfl)
theorem dX0_tellStreet_12 : decode cX0_tellStreet 12 = .ok (.getfield 32, 3) := dk_180 0 32 (dk_at dksX0_tellStreet_0 12 rfl rfl)
theorem dX0_tellStreet_15 : decode cX0_tellStreet 15 = .ok (.invokevirtual 233, 3) := dk_182 0 233 (dk_at dksX0_tellStreet_0 15 rfl rfl)
theorem dX0_tellStreet_18 : decode cX0_tellStreet 18 = .ok (.ireturn, 1) := dk_172 (dk_at dksX0_tellStreet_0 18 rfl rfl)
abbrev cX0_character : ByteArray := prog_1_method_32_code
def yX0_character : MethodName := ⟨RX0, "character", "(I)I"⟩
def dkwX0_character_1 : List UInt8 := [182, 0, 239, 167, 0, 5, 16, 245, 172]
abbrev dktX0_character_1 : List UInt8 := dkwX0_character_1 ++ []
def dkwX0_character_0 : List UInt8 := [27, 3, 42, 180, 0, 32, 182, 0, 233, 4, 100, 184, 0, 36, 153, 0, 14, 42, 180, 0, 32, 27]
abbrev dktX0_character_0 : List UInt8 := dkwX0_character_0 ++ dktX0_character_1
theorem dksX0_character_0 : cX0_character.data.toList.drop 0 = dktX0_character_0 := by decide +kernel
theorem dksX0_character_1 : cX0_character.data.toList.drop 22 = dktX0_character_1 := dk_seg dksX0_character_0 22 rfl rfl
theorem dX0_character_0 : decode cX0_character 0 = .ok (.iload_n 1, 1) := dk_27 (dk_at dksX0_character_0 0 rfl rfl)
theorem dX0_character_1 : decode cX0_character 1 = .ok (.iconst 0, 1) := dk_3 (dk_at dksX0_character_0 1 rfl rfl)
theorem dX0_character_2 : decode cX0_character 2 = .ok (.aload_n 0, 1) := dk_42 (dk_at dksX0_character_0 2 rfl rfl)
theorem dX0_character_3 : decode cX0_character 3 = .ok (.getfield 32, 3) := dk_180 0 32 (dk_at dksX0_character_0 3 rfl rfl)
theorem dX0_character_6 : decode cX0_character 6 = .ok (.invokevirtual 233, 3) := dk_182 0 233 (dk_at dksX0_character_0 6 rfl rfl)
theorem dX0_character_9 : decode cX0_character 9 = .ok (.iconst 1, 1) := dk_4 (dk_at dksX0_character_0 9 rfl rfl)
theorem dX0_character_10 : decode cX0_character 10 = .ok (.isub, 1) := dk_100 (dk_at dksX0_character_0 10 rfl rfl)
theorem dX0_character_11 : decode cX0_character 11 = .ok (.invokestatic 36, 3) := dk_184 0 36 (dk_at dksX0_character_0 11 rfl rfl)
theorem dX0_character_14 : decode cX0_character 14 = .ok (.ifCond .eq 14, 3) := dk_153 0 14 (dk_at dksX0_character_0 14 rfl rfl)
theorem dX0_character_17 : decode cX0_character 17 = .ok (.aload_n 0, 1) := dk_42 (dk_at dksX0_character_0 17 rfl rfl)
theorem dX0_character_18 : decode cX0_character 18 = .ok (.getfield 32, 3) := dk_180 0 32 (dk_at dksX0_character_0 18 rfl rfl)
theorem dX0_character_21 : decode cX0_character 21 = .ok (.iload_n 1, 1) := dk_27 (dk_at dksX0_character_0 21 rfl rfl)
theorem dX0_character_22 : decode cX0_character 22 = .ok (.invokevirtual 239, 3) := dk_182 0 239 (dk_at dksX0_character_1 0 rfl rfl)
theorem dX0_character_25 : decode cX0_character 25 = .ok (.goto 5, 3) := dk_167 0 5 (dk_at dksX0_character_1 3 rfl rfl)
theorem dX0_character_28 : decode cX0_character 28 = .ok (.bipush (-11), 2) := dk_16 245 (dk_at dksX0_character_1 6 rfl rfl)
theorem dX0_character_30 : decode cX0_character 30 = .ok (.ireturn, 1) := dk_172 (dk_at dksX0_character_1 8 rfl rfl)
abbrev cX0_reason : ByteArray := prog_1_method_33_code
def yX0_reason : MethodName := ⟨RX0, "reason", "(Z)I"⟩
def dkwX0_reason_1 : List UInt8 := [180, 0, 49, 172]
abbrev dktX0_reason_1 : List UInt8 := dkwX0_reason_1 ++ []
def dkwX0_reason_0 : List UInt8 := [42, 180, 0, 49, 154, 0, 8, 16, 241, 167, 0, 18, 27, 153, 0, 10, 42, 180, 0, 53, 167, 0, 7, 42]
abbrev dktX0_reason_0 : List UInt8 := dkwX0_reason_0 ++ dktX0_reason_1
theorem dksX0_reason_0 : cX0_reason.data.toList.drop 0 = dktX0_reason_0 := by decide +kernel
theorem dksX0_reason_1 : cX0_reason.data.toList.drop 24 = dktX0_reason_1 := dk_seg dksX0_reason_0 24 rfl rfl
theorem dX0_reason_0 : decode cX0_reason 0 = .ok (.aload_n 0, 1) := dk_42 (dk_at dksX0_reason_0 0 rfl rfl)
theorem dX0_reason_1 : decode cX0_reason 1 = .ok (.getfield 49, 3) := dk_180 0 49 (dk_at dksX0_reason_0 1 rfl rfl)
theorem dX0_reason_4 : decode cX0_reason 4 = .ok (.ifCond .ne 8, 3) := dk_154 0 8 (dk_at dksX0_reason_0 4 rfl rfl)
theorem dX0_reason_7 : decode cX0_reason 7 = .ok (.bipush (-15), 2) := dk_16 241 (dk_at dksX0_reason_0 7 rfl rfl)
theorem dX0_reason_9 : decode cX0_reason 9 = .ok (.goto 18, 3) := dk_167 0 18 (dk_at dksX0_reason_0 9 rfl rfl)
theorem dX0_reason_12 : decode cX0_reason 12 = .ok (.iload_n 1, 1) := dk_27 (dk_at dksX0_reason_0 12 rfl rfl)
theorem dX0_reason_13 : decode cX0_reason 13 = .ok (.ifCond .eq 10, 3) := dk_153 0 10 (dk_at dksX0_reason_0 13 rfl rfl)
theorem dX0_reason_16 : decode cX0_reason 16 = .ok (.aload_n 0, 1) := dk_42 (dk_at dksX0_reason_0 16 rfl rfl)
theorem dX0_reason_17 : decode cX0_reason 17 = .ok (.getfield 53, 3) := dk_180 0 53 (dk_at dksX0_reason_0 17 rfl rfl)
theorem dX0_reason_20 : decode cX0_reason 20 = .ok (.goto 7, 3) := dk_167 0 7 (dk_at dksX0_reason_0 20 rfl rfl)
theorem dX0_reason_23 : decode cX0_reason 23 = .ok (.aload_n 0, 1) := dk_42 (dk_at dksX0_reason_0 23 rfl rfl)
theorem dX0_reason_24 : decode cX0_reason 24 = .ok (.getfield 49, 3) := dk_180 0 49 (dk_at dksX0_reason_1 0 rfl rfl)
theorem dX0_reason_27 : decode cX0_reason 27 = .ok (.ireturn, 1) := dk_172 (dk_at dksX0_reason_1 3 rfl rfl)
abbrev cX0_account : ByteArray := prog_1_method_34_code
def yX0_account : MethodName := ⟨RX0, "account", "(I)I"⟩
def dkwX0_account_10 : List UInt8 := [180, 0, 19, 182, 0, 58, 167, 0, 5, 16, 244, 172]
abbrev dktX0_account_10 : List UInt8 := dkwX0_account_10 ++ []
def dkwX0_account_9 : List UInt8 := [167, 0, 35, 42, 180, 0, 10, 180, 1, 30, 167, 0, 25, 42, 180, 0, 26, 182, 0, 182, 167, 0, 15, 42]
abbrev dktX0_account_9 : List UInt8 := dkwX0_account_9 ++ dktX0_account_10
def dkwX0_account_8 : List UInt8 := [167, 0, 58, 42, 180, 0, 10, 180, 0, 169, 182, 1, 27, 167, 0, 45, 42, 180, 0, 10, 180, 1, 28]
abbrev dktX0_account_8 : List UInt8 := dkwX0_account_8 ++ dktX0_account_9
def dkwX0_account_7 : List UInt8 := [180, 1, 18, 167, 0, 78, 42, 180, 0, 10, 180, 1, 21, 167, 0, 68, 42, 180, 0, 10, 180, 1, 24]
abbrev dktX0_account_7 : List UInt8 := dkwX0_account_7 ++ dktX0_account_8
def dkwX0_account_6 : List UInt8 := [180, 0, 10, 180, 1, 12, 167, 0, 98, 42, 180, 0, 10, 180, 1, 15, 167, 0, 88, 42, 180, 0, 10]
abbrev dktX0_account_6 : List UInt8 := dkwX0_account_6 ++ dktX0_account_7
def dkwX0_account_5 : List UInt8 := [167, 0, 128, 42, 180, 0, 10, 182, 1, 6, 167, 0, 118, 42, 180, 0, 10, 182, 1, 9, 167, 0, 108, 42]
abbrev dktX0_account_5 : List UInt8 := dkwX0_account_5 ++ dktX0_account_6
def dkwX0_account_4 : List UInt8 := [182, 0, 253, 167, 0, 148, 42, 180, 0, 10, 182, 1, 0, 167, 0, 138, 42, 180, 0, 10, 180, 1, 3]
abbrev dktX0_account_4 : List UInt8 := dkwX0_account_4 ++ dktX0_account_5
def dkwX0_account_3 : List UInt8 := [180, 0, 106, 182, 0, 249, 167, 0, 168, 42, 180, 0, 10, 182, 0, 250, 167, 0, 158, 42, 180, 0, 10]
abbrev dktX0_account_3 : List UInt8 := dkwX0_account_3 ++ dktX0_account_4
def dkwX0_account_2 : List UInt8 := [42, 180, 0, 10, 180, 0, 243, 167, 0, 191, 42, 180, 0, 10, 180, 0, 246, 167, 0, 181, 42, 180, 0, 10]
abbrev dktX0_account_2 : List UInt8 := dkwX0_account_2 ++ dktX0_account_3
def dkwX0_account_1 : List UInt8 := [170, 0, 0, 0, 0, 1, 31, 0, 0, 0, 0, 0, 0, 0, 18, 0, 0, 0, 91, 0, 0, 0, 101, 0, 0, 0, 111, 0, 0, 0, 124, 0, 0, 0, 134, 0, 0, 0, 144, 0, 0, 0, 154, 0, 0, 0, 164, 0, 0, 0, 174, 0, 0, 0, 184, 0, 0, 0, 194, 0, 0, 0, 204, 0, 0, 0, 214, 0, 0, 0, 224, 0, 0, 0, 234, 0, 0, 0, 247, 0, 0, 1, 1, 0, 0, 1, 11, 0, 0, 1, 21]
abbrev dktX0_account_1 : List UInt8 := dkwX0_account_1 ++ dktX0_account_2
def dkwX0_account_0 : List UInt8 := [27]
abbrev dktX0_account_0 : List UInt8 := dkwX0_account_0 ++ dktX0_account_1
theorem dksX0_account_0 : cX0_account.data.toList.drop 0 = dktX0_account_0 := by decide +kernel
theorem dksX0_account_1 : cX0_account.data.toList.drop 1 = dktX0_account_1 := dk_seg dksX0_account_0 1 rfl rfl
theorem dksX0_account_2 : cX0_account.data.toList.drop 92 = dktX0_account_2 := dk_seg dksX0_account_1 91 rfl rfl
theorem dksX0_account_3 : cX0_account.data.toList.drop 116 = dktX0_account_3 := dk_seg dksX0_account_2 24 rfl rfl
theorem dksX0_account_4 : cX0_account.data.toList.drop 139 = dktX0_account_4 := dk_seg dksX0_account_3 23 rfl rfl
theorem dksX0_account_5 : cX0_account.data.toList.drop 162 = dktX0_account_5 := dk_seg dksX0_account_4 23 rfl rfl
theorem dksX0_account_6 : cX0_account.data.toList.drop 186 = dktX0_account_6 := dk_seg dksX0_account_5 24 rfl rfl
theorem dksX0_account_7 : cX0_account.data.toList.drop 209 = dktX0_account_7 := dk_seg dksX0_account_6 23 rfl rfl
theorem dksX0_account_8 : cX0_account.data.toList.drop 232 = dktX0_account_8 := dk_seg dksX0_account_7 23 rfl rfl
theorem dksX0_account_9 : cX0_account.data.toList.drop 255 = dktX0_account_9 := dk_seg dksX0_account_8 23 rfl rfl
theorem dksX0_account_10 : cX0_account.data.toList.drop 279 = dktX0_account_10 := dk_seg dksX0_account_9 24 rfl rfl
theorem dX0_account_0 : decode cX0_account 0 = .ok (.iload_n 1, 1) := dk_27 (dk_at dksX0_account_0 0 rfl rfl)
theorem dX0_account_1 : decode cX0_account 1 = .ok (.tableswitch 287 0 18 #[91, 101, 111, 124, 134, 144, 154, 164, 174, 184, 194, 204, 214, 224, 234, 247, 257, 267, 277], 91) := by decide +kernel
theorem dX0_account_92 : decode cX0_account 92 = .ok (.aload_n 0, 1) := dk_42 (dk_at dksX0_account_2 0 rfl rfl)
theorem dX0_account_93 : decode cX0_account 93 = .ok (.getfield 10, 3) := dk_180 0 10 (dk_at dksX0_account_2 1 rfl rfl)
theorem dX0_account_96 : decode cX0_account 96 = .ok (.getfield 243, 3) := dk_180 0 243 (dk_at dksX0_account_2 4 rfl rfl)
theorem dX0_account_99 : decode cX0_account 99 = .ok (.goto 191, 3) := dk_167 0 191 (dk_at dksX0_account_2 7 rfl rfl)
theorem dX0_account_102 : decode cX0_account 102 = .ok (.aload_n 0, 1) := dk_42 (dk_at dksX0_account_2 10 rfl rfl)
theorem dX0_account_103 : decode cX0_account 103 = .ok (.getfield 10, 3) := dk_180 0 10 (dk_at dksX0_account_2 11 rfl rfl)
theorem dX0_account_106 : decode cX0_account 106 = .ok (.getfield 246, 3) := dk_180 0 246 (dk_at dksX0_account_2 14 rfl rfl)
theorem dX0_account_109 : decode cX0_account 109 = .ok (.goto 181, 3) := dk_167 0 181 (dk_at dksX0_account_2 17 rfl rfl)
theorem dX0_account_112 : decode cX0_account 112 = .ok (.aload_n 0, 1) := dk_42 (dk_at dksX0_account_2 20 rfl rfl)
theorem dX0_account_113 : decode cX0_account 113 = .ok (.getfield 10, 3) := dk_180 0 10 (dk_at dksX0_account_2 21 rfl rfl)
theorem dX0_account_116 : decode cX0_account 116 = .ok (.getfield 106, 3) := dk_180 0 106 (dk_at dksX0_account_3 0 rfl rfl)
theorem dX0_account_119 : decode cX0_account 119 = .ok (.invokevirtual 249, 3) := dk_182 0 249 (dk_at dksX0_account_3 3 rfl rfl)
theorem dX0_account_122 : decode cX0_account 122 = .ok (.goto 168, 3) := dk_167 0 168 (dk_at dksX0_account_3 6 rfl rfl)
theorem dX0_account_125 : decode cX0_account 125 = .ok (.aload_n 0, 1) := dk_42 (dk_at dksX0_account_3 9 rfl rfl)
theorem dX0_account_126 : decode cX0_account 126 = .ok (.getfield 10, 3) := dk_180 0 10 (dk_at dksX0_account_3 10 rfl rfl)
theorem dX0_account_129 : decode cX0_account 129 = .ok (.invokevirtual 250, 3) := dk_182 0 250 (dk_at dksX0_account_3 13 rfl rfl)
theorem dX0_account_132 : decode cX0_account 132 = .ok (.goto 158, 3) := dk_167 0 158 (dk_at dksX0_account_3 16 rfl rfl)
theorem dX0_account_135 : decode cX0_account 135 = .ok (.aload_n 0, 1) := dk_42 (dk_at dksX0_account_3 19 rfl rfl)
theorem dX0_account_136 : decode cX0_account 136 = .ok (.getfield 10, 3) := dk_180 0 10 (dk_at dksX0_account_3 20 rfl rfl)
theorem dX0_account_139 : decode cX0_account 139 = .ok (.invokevirtual 253, 3) := dk_182 0 253 (dk_at dksX0_account_4 0 rfl rfl)
theorem dX0_account_142 : decode cX0_account 142 = .ok (.goto 148, 3) := dk_167 0 148 (dk_at dksX0_account_4 3 rfl rfl)
theorem dX0_account_145 : decode cX0_account 145 = .ok (.aload_n 0, 1) := dk_42 (dk_at dksX0_account_4 6 rfl rfl)
theorem dX0_account_146 : decode cX0_account 146 = .ok (.getfield 10, 3) := dk_180 0 10 (dk_at dksX0_account_4 7 rfl rfl)
theorem dX0_account_149 : decode cX0_account 149 = .ok (.invokevirtual 256, 3) := dk_182 1 0 (dk_at dksX0_account_4 10 rfl rfl)
theorem dX0_account_152 : decode cX0_account 152 = .ok (.goto 138, 3) := dk_167 0 138 (dk_at dksX0_account_4 13 rfl rfl)
theorem dX0_account_155 : decode cX0_account 155 = .ok (.aload_n 0, 1) := dk_42 (dk_at dksX0_account_4 16 rfl rfl)
theorem dX0_account_156 : decode cX0_account 156 = .ok (.getfield 10, 3) := dk_180 0 10 (dk_at dksX0_account_4 17 rfl rfl)
theorem dX0_account_159 : decode cX0_account 159 = .ok (.getfield 259, 3) := dk_180 1 3 (dk_at dksX0_account_4 20 rfl rfl)
theorem dX0_account_162 : decode cX0_account 162 = .ok (.goto 128, 3) := dk_167 0 128 (dk_at dksX0_account_5 0 rfl rfl)
theorem dX0_account_165 : decode cX0_account 165 = .ok (.aload_n 0, 1) := dk_42 (dk_at dksX0_account_5 3 rfl rfl)
theorem dX0_account_166 : decode cX0_account 166 = .ok (.getfield 10, 3) := dk_180 0 10 (dk_at dksX0_account_5 4 rfl rfl)
theorem dX0_account_169 : decode cX0_account 169 = .ok (.invokevirtual 262, 3) := dk_182 1 6 (dk_at dksX0_account_5 7 rfl rfl)
theorem dX0_account_172 : decode cX0_account 172 = .ok (.goto 118, 3) := dk_167 0 118 (dk_at dksX0_account_5 10 rfl rfl)
theorem dX0_account_175 : decode cX0_account 175 = .ok (.aload_n 0, 1) := dk_42 (dk_at dksX0_account_5 13 rfl rfl)
theorem dX0_account_176 : decode cX0_account 176 = .ok (.getfield 10, 3) := dk_180 0 10 (dk_at dksX0_account_5 14 rfl rfl)
theorem dX0_account_179 : decode cX0_account 179 = .ok (.invokevirtual 265, 3) := dk_182 1 9 (dk_at dksX0_account_5 17 rfl rfl)
theorem dX0_account_182 : decode cX0_account 182 = .ok (.goto 108, 3) := dk_167 0 108 (dk_at dksX0_account_5 20 rfl rfl)
theorem dX0_account_185 : decode cX0_account 185 = .ok (.aload_n 0, 1) := dk_42 (dk_at dksX0_account_5 23 rfl rfl)
theorem dX0_account_186 : decode cX0_account 186 = .ok (.getfield 10, 3) := dk_180 0 10 (dk_at dksX0_account_6 0 rfl rfl)
theorem dX0_account_189 : decode cX0_account 189 = .ok (.getfield 268, 3) := dk_180 1 12 (dk_at dksX0_account_6 3 rfl rfl)
theorem dX0_account_192 : decode cX0_account 192 = .ok (.goto 98, 3) := dk_167 0 98 (dk_at dksX0_account_6 6 rfl rfl)
theorem dX0_account_195 : decode cX0_account 195 = .ok (.aload_n 0, 1) := dk_42 (dk_at dksX0_account_6 9 rfl rfl)
theorem dX0_account_196 : decode cX0_account 196 = .ok (.getfield 10, 3) := dk_180 0 10 (dk_at dksX0_account_6 10 rfl rfl)
theorem dX0_account_199 : decode cX0_account 199 = .ok (.getfield 271, 3) := dk_180 1 15 (dk_at dksX0_account_6 13 rfl rfl)
theorem dX0_account_202 : decode cX0_account 202 = .ok (.goto 88, 3) := dk_167 0 88 (dk_at dksX0_account_6 16 rfl rfl)
theorem dX0_account_205 : decode cX0_account 205 = .ok (.aload_n 0, 1) := dk_42 (dk_at dksX0_account_6 19 rfl rfl)
theorem dX0_account_206 : decode cX0_account 206 = .ok (.getfield 10, 3) := dk_180 0 10 (dk_at dksX0_account_6 20 rfl rfl)
theorem dX0_account_209 : decode cX0_account 209 = .ok (.getfield 274, 3) := dk_180 1 18 (dk_at dksX0_account_7 0 rfl rfl)
theorem dX0_account_212 : decode cX0_account 212 = .ok (.goto 78, 3) := dk_167 0 78 (dk_at dksX0_account_7 3 rfl rfl)
theorem dX0_account_215 : decode cX0_account 215 = .ok (.aload_n 0, 1) := dk_42 (dk_at dksX0_account_7 6 rfl rfl)
theorem dX0_account_216 : decode cX0_account 216 = .ok (.getfield 10, 3) := dk_180 0 10 (dk_at dksX0_account_7 7 rfl rfl)
theorem dX0_account_219 : decode cX0_account 219 = .ok (.getfield 277, 3) := dk_180 1 21 (dk_at dksX0_account_7 10 rfl rfl)
theorem dX0_account_222 : decode cX0_account 222 = .ok (.goto 68, 3) := dk_167 0 68 (dk_at dksX0_account_7 13 rfl rfl)
theorem dX0_account_225 : decode cX0_account 225 = .ok (.aload_n 0, 1) := dk_42 (dk_at dksX0_account_7 16 rfl rfl)
theorem dX0_account_226 : decode cX0_account 226 = .ok (.getfield 10, 3) := dk_180 0 10 (dk_at dksX0_account_7 17 rfl rfl)
theorem dX0_account_229 : decode cX0_account 229 = .ok (.getfield 280, 3) := dk_180 1 24 (dk_at dksX0_account_7 20 rfl rfl)
theorem dX0_account_232 : decode cX0_account 232 = .ok (.goto 58, 3) := dk_167 0 58 (dk_at dksX0_account_8 0 rfl rfl)
theorem dX0_account_235 : decode cX0_account 235 = .ok (.aload_n 0, 1) := dk_42 (dk_at dksX0_account_8 3 rfl rfl)
theorem dX0_account_236 : decode cX0_account 236 = .ok (.getfield 10, 3) := dk_180 0 10 (dk_at dksX0_account_8 4 rfl rfl)
theorem dX0_account_239 : decode cX0_account 239 = .ok (.getfield 169, 3) := dk_180 0 169 (dk_at dksX0_account_8 7 rfl rfl)
theorem dX0_account_242 : decode cX0_account 242 = .ok (.invokevirtual 283, 3) := dk_182 1 27 (dk_at dksX0_account_8 10 rfl rfl)
theorem dX0_account_245 : decode cX0_account 245 = .ok (.goto 45, 3) := dk_167 0 45 (dk_at dksX0_account_8 13 rfl rfl)
theorem dX0_account_248 : decode cX0_account 248 = .ok (.aload_n 0, 1) := dk_42 (dk_at dksX0_account_8 16 rfl rfl)
theorem dX0_account_249 : decode cX0_account 249 = .ok (.getfield 10, 3) := dk_180 0 10 (dk_at dksX0_account_8 17 rfl rfl)
theorem dX0_account_252 : decode cX0_account 252 = .ok (.getfield 284, 3) := dk_180 1 28 (dk_at dksX0_account_8 20 rfl rfl)
theorem dX0_account_255 : decode cX0_account 255 = .ok (.goto 35, 3) := dk_167 0 35 (dk_at dksX0_account_9 0 rfl rfl)
theorem dX0_account_258 : decode cX0_account 258 = .ok (.aload_n 0, 1) := dk_42 (dk_at dksX0_account_9 3 rfl rfl)
theorem dX0_account_259 : decode cX0_account 259 = .ok (.getfield 10, 3) := dk_180 0 10 (dk_at dksX0_account_9 4 rfl rfl)
theorem dX0_account_262 : decode cX0_account 262 = .ok (.getfield 286, 3) := dk_180 1 30 (dk_at dksX0_account_9 7 rfl rfl)
theorem dX0_account_265 : decode cX0_account 265 = .ok (.goto 25, 3) := dk_167 0 25 (dk_at dksX0_account_9 10 rfl rfl)
theorem dX0_account_268 : decode cX0_account 268 = .ok (.aload_n 0, 1) := dk_42 (dk_at dksX0_account_9 13 rfl rfl)
theorem dX0_account_269 : decode cX0_account 269 = .ok (.getfield 26, 3) := dk_180 0 26 (dk_at dksX0_account_9 14 rfl rfl)
theorem dX0_account_272 : decode cX0_account 272 = .ok (.invokevirtual 182, 3) := dk_182 0 182 (dk_at dksX0_account_9 17 rfl rfl)
theorem dX0_account_275 : decode cX0_account 275 = .ok (.goto 15, 3) := dk_167 0 15 (dk_at dksX0_account_9 20 rfl rfl)
theorem dX0_account_278 : decode cX0_account 278 = .ok (.aload_n 0, 1) := dk_42 (dk_at dksX0_account_9 23 rfl rfl)
theorem dX0_account_279 : decode cX0_account 279 = .ok (.getfield 19, 3) := dk_180 0 19 (dk_at dksX0_account_10 0 rfl rfl)
theorem dX0_account_282 : decode cX0_account 282 = .ok (.invokevirtual 58, 3) := dk_182 0 58 (dk_at dksX0_account_10 3 rfl rfl)
theorem dX0_account_285 : decode cX0_account 285 = .ok (.goto 5, 3) := dk_167 0 5 (dk_at dksX0_account_10 6 rfl rfl)
theorem dX0_account_288 : decode cX0_account 288 = .ok (.bipush (-12), 2) := dk_16 244 (dk_at dksX0_account_10 9 rfl rfl)
theorem dX0_account_290 : decode cX0_account 290 = .ok (.ireturn, 1) := dk_172 (dk_at dksX0_account_10 11 rfl rfl)
abbrev cX0_isBalanced : ByteArray := prog_1_method_35_code
def yX0_isBalanced : MethodName := ⟨RX0, "isBalanced", "()I"⟩
def dkwX0_isBalanced_0 : List UInt8 := [42, 180, 0, 10, 182, 1, 33, 153, 0, 7, 4, 167, 0, 4, 3, 172]
abbrev dktX0_isBalanced_0 : List UInt8 := dkwX0_isBalanced_0 ++ []
theorem dksX0_isBalanced_0 : cX0_isBalanced.data.toList.drop 0 = dktX0_isBalanced_0 := by decide +kernel
theorem dX0_isBalanced_0 : decode cX0_isBalanced 0 = .ok (.aload_n 0, 1) := dk_42 (dk_at dksX0_isBalanced_0 0 rfl rfl)
theorem dX0_isBalanced_1 : decode cX0_isBalanced 1 = .ok (.getfield 10, 3) := dk_180 0 10 (dk_at dksX0_isBalanced_0 1 rfl rfl)
theorem dX0_isBalanced_4 : decode cX0_isBalanced 4 = .ok (.invokevirtual 289, 3) := dk_182 1 33 (dk_at dksX0_isBalanced_0 4 rfl rfl)
theorem dX0_isBalanced_7 : decode cX0_isBalanced 7 = .ok (.ifCond .eq 7, 3) := dk_153 0 7 (dk_at dksX0_isBalanced_0 7 rfl rfl)
theorem dX0_isBalanced_10 : decode cX0_isBalanced 10 = .ok (.iconst 1, 1) := dk_4 (dk_at dksX0_isBalanced_0 10 rfl rfl)
theorem dX0_isBalanced_11 : decode cX0_isBalanced 11 = .ok (.goto 4, 3) := dk_167 0 4 (dk_at dksX0_isBalanced_0 11 rfl rfl)
theorem dX0_isBalanced_14 : decode cX0_isBalanced 14 = .ok (.iconst 0, 1) := dk_3 (dk_at dksX0_isBalanced_0 14 rfl rfl)
theorem dX0_isBalanced_15 : decode cX0_isBalanced 15 = .ok (.ireturn, 1) := dk_172 (dk_at dksX0_isBalanced_0 15 rfl rfl)
abbrev cX0_meanTemper : ByteArray := prog_1_method_36_code
def yX0_meanTemper : MethodName := ⟨RX0, "meanTemper", "()D"⟩
def dkwX0_meanTemper_0 : List UInt8 := [42, 180, 0, 10, 182, 1, 36, 135, 20, 1, 39, 111, 175]
abbrev dktX0_meanTemper_0 : List UInt8 := dkwX0_meanTemper_0 ++ []
theorem dksX0_meanTemper_0 : cX0_meanTemper.data.toList.drop 0 = dktX0_meanTemper_0 := by decide +kernel
theorem dX0_meanTemper_0 : decode cX0_meanTemper 0 = .ok (.aload_n 0, 1) := dk_42 (dk_at dksX0_meanTemper_0 0 rfl rfl)
theorem dX0_meanTemper_1 : decode cX0_meanTemper 1 = .ok (.getfield 10, 3) := dk_180 0 10 (dk_at dksX0_meanTemper_0 1 rfl rfl)
theorem dX0_meanTemper_4 : decode cX0_meanTemper 4 = .ok (.invokevirtual 292, 3) := dk_182 1 36 (dk_at dksX0_meanTemper_0 4 rfl rfl)
theorem dX0_meanTemper_7 : decode cX0_meanTemper 7 = .ok (.i2d, 1) := dk_135 (dk_at dksX0_meanTemper_0 7 rfl rfl)
theorem dX0_meanTemper_8 : decode cX0_meanTemper 8 = .ok (.ldc2_w 295, 3) := dk_20 1 39 (dk_at dksX0_meanTemper_0 8 rfl rfl)
theorem dX0_meanTemper_11 : decode cX0_meanTemper 11 = .ok (.ddiv, 1) := dk_111 (dk_at dksX0_meanTemper_0 11 rfl rfl)
theorem dX0_meanTemper_12 : decode cX0_meanTemper 12 = .ok (.dreturn, 1) := dk_175 (dk_at dksX0_meanTemper_0 12 rfl rfl)
abbrev cX0_backShare : ByteArray := prog_1_method_37_code
def yX0_backShare : MethodName := ⟨RX0, "backShare", "()F"⟩
def dkwX0_backShare_1 : List UInt8 := [27, 134, 110, 174]
abbrev dktX0_backShare_1 : List UInt8 := dkwX0_backShare_1 ++ []
def dkwX0_backShare_0 : List UInt8 := [42, 180, 0, 10, 182, 1, 6, 60, 27, 154, 0, 7, 11, 167, 0, 14, 42, 180, 0, 10, 182, 1, 9, 134]
abbrev dktX0_backShare_0 : List UInt8 := dkwX0_backShare_0 ++ dktX0_backShare_1
theorem dksX0_backShare_0 : cX0_backShare.data.toList.drop 0 = dktX0_backShare_0 := by decide +kernel
theorem dksX0_backShare_1 : cX0_backShare.data.toList.drop 24 = dktX0_backShare_1 := dk_seg dksX0_backShare_0 24 rfl rfl
theorem dX0_backShare_0 : decode cX0_backShare 0 = .ok (.aload_n 0, 1) := dk_42 (dk_at dksX0_backShare_0 0 rfl rfl)
theorem dX0_backShare_1 : decode cX0_backShare 1 = .ok (.getfield 10, 3) := dk_180 0 10 (dk_at dksX0_backShare_0 1 rfl rfl)
theorem dX0_backShare_4 : decode cX0_backShare 4 = .ok (.invokevirtual 262, 3) := dk_182 1 6 (dk_at dksX0_backShare_0 4 rfl rfl)
theorem dX0_backShare_7 : decode cX0_backShare 7 = .ok (.istore_n 1, 1) := dk_60 (dk_at dksX0_backShare_0 7 rfl rfl)
theorem dX0_backShare_8 : decode cX0_backShare 8 = .ok (.iload_n 1, 1) := dk_27 (dk_at dksX0_backShare_0 8 rfl rfl)
theorem dX0_backShare_9 : decode cX0_backShare 9 = .ok (.ifCond .ne 7, 3) := dk_154 0 7 (dk_at dksX0_backShare_0 9 rfl rfl)
theorem dX0_backShare_12 : decode cX0_backShare 12 = .ok (.fconst 0, 1) := dk_11 (dk_at dksX0_backShare_0 12 rfl rfl)
theorem dX0_backShare_13 : decode cX0_backShare 13 = .ok (.goto 14, 3) := dk_167 0 14 (dk_at dksX0_backShare_0 13 rfl rfl)
theorem dX0_backShare_16 : decode cX0_backShare 16 = .ok (.aload_n 0, 1) := dk_42 (dk_at dksX0_backShare_0 16 rfl rfl)
theorem dX0_backShare_17 : decode cX0_backShare 17 = .ok (.getfield 10, 3) := dk_180 0 10 (dk_at dksX0_backShare_0 17 rfl rfl)
theorem dX0_backShare_20 : decode cX0_backShare 20 = .ok (.invokevirtual 265, 3) := dk_182 1 9 (dk_at dksX0_backShare_0 20 rfl rfl)
theorem dX0_backShare_23 : decode cX0_backShare 23 = .ok (.i2f, 1) := dk_134 (dk_at dksX0_backShare_0 23 rfl rfl)
theorem dX0_backShare_24 : decode cX0_backShare 24 = .ok (.iload_n 1, 1) := dk_27 (dk_at dksX0_backShare_1 0 rfl rfl)
theorem dX0_backShare_25 : decode cX0_backShare 25 = .ok (.i2f, 1) := dk_134 (dk_at dksX0_backShare_1 1 rfl rfl)
theorem dX0_backShare_26 : decode cX0_backShare 26 = .ok (.fdiv, 1) := dk_110 (dk_at dksX0_backShare_1 2 rfl rfl)
theorem dX0_backShare_27 : decode cX0_backShare 27 = .ok (.freturn, 1) := dk_174 (dk_at dksX0_backShare_1 3 rfl rfl)
abbrev cX0_undo : ByteArray := prog_1_method_38_code
def yX0_undo : MethodName := ⟨RX0, "undo", "()I"⟩
def dkwX0_undo_1 : List UInt8 := [181, 0, 10, 42, 180, 0, 19, 182, 0, 58, 172]
abbrev dktX0_undo_1 : List UInt8 := dkwX0_undo_1 ++ []
def dkwX0_undo_0 : List UInt8 := [42, 180, 0, 19, 182, 1, 41, 153, 0, 6, 16, 241, 172, 42, 42, 180, 0, 19, 182, 1, 44, 192, 0, 7]
abbrev dktX0_undo_0 : List UInt8 := dkwX0_undo_0 ++ dktX0_undo_1
theorem dksX0_undo_0 : cX0_undo.data.toList.drop 0 = dktX0_undo_0 := by decide +kernel
theorem dksX0_undo_1 : cX0_undo.data.toList.drop 24 = dktX0_undo_1 := dk_seg dksX0_undo_0 24 rfl rfl
theorem dX0_undo_0 : decode cX0_undo 0 = .ok (.aload_n 0, 1) := dk_42 (dk_at dksX0_undo_0 0 rfl rfl)
theorem dX0_undo_1 : decode cX0_undo 1 = .ok (.getfield 19, 3) := dk_180 0 19 (dk_at dksX0_undo_0 1 rfl rfl)
theorem dX0_undo_4 : decode cX0_undo 4 = .ok (.invokevirtual 297, 3) := dk_182 1 41 (dk_at dksX0_undo_0 4 rfl rfl)
theorem dX0_undo_7 : decode cX0_undo 7 = .ok (.ifCond .eq 6, 3) := dk_153 0 6 (dk_at dksX0_undo_0 7 rfl rfl)
theorem dX0_undo_10 : decode cX0_undo 10 = .ok (.bipush (-15), 2) := dk_16 241 (dk_at dksX0_undo_0 10 rfl rfl)
theorem dX0_undo_12 : decode cX0_undo 12 = .ok (.ireturn, 1) := dk_172 (dk_at dksX0_undo_0 12 rfl rfl)
theorem dX0_undo_13 : decode cX0_undo 13 = .ok (.aload_n 0, 1) := dk_42 (dk_at dksX0_undo_0 13 rfl rfl)
theorem dX0_undo_14 : decode cX0_undo 14 = .ok (.aload_n 0, 1) := dk_42 (dk_at dksX0_undo_0 14 rfl rfl)
theorem dX0_undo_15 : decode cX0_undo 15 = .ok (.getfield 19, 3) := dk_180 0 19 (dk_at dksX0_undo_0 15 rfl rfl)
theorem dX0_undo_18 : decode cX0_undo 18 = .ok (.invokevirtual 300, 3) := dk_182 1 44 (dk_at dksX0_undo_0 18 rfl rfl)
theorem dX0_undo_21 : decode cX0_undo 21 = .ok (.checkcast 7, 3) := dk_192 0 7 (dk_at dksX0_undo_0 21 rfl rfl)
theorem dX0_undo_24 : decode cX0_undo 24 = .ok (.putfield 10, 3) := dk_181 0 10 (dk_at dksX0_undo_1 0 rfl rfl)
theorem dX0_undo_27 : decode cX0_undo 27 = .ok (.aload_n 0, 1) := dk_42 (dk_at dksX0_undo_1 3 rfl rfl)
theorem dX0_undo_28 : decode cX0_undo 28 = .ok (.getfield 19, 3) := dk_180 0 19 (dk_at dksX0_undo_1 4 rfl rfl)
theorem dX0_undo_31 : decode cX0_undo 31 = .ok (.invokevirtual 58, 3) := dk_182 0 58 (dk_at dksX0_undo_1 7 rfl rfl)
theorem dX0_undo_34 : decode cX0_undo 34 = .ok (.ireturn, 1) := dk_172 (dk_at dksX0_undo_1 10 rfl rfl)
abbrev cX0_save : ByteArray := prog_1_method_39_code
def yX0_save : MethodName := ⟨RX0, "save", "()I"⟩
def dkwX0_save_0 : List UInt8 := [42, 42, 180, 0, 10, 182, 0, 66, 181, 1, 47, 42, 180, 1, 47, 180, 0, 106, 182, 0, 249, 172]
abbrev dktX0_save_0 : List UInt8 := dkwX0_save_0 ++ []
theorem dksX0_save_0 : cX0_save.data.toList.drop 0 = dktX0_save_0 := by decide +kernel
theorem dX0_save_0 : decode cX0_save 0 = .ok (.aload_n 0, 1) := dk_42 (dk_at dksX0_save_0 0 rfl rfl)
theorem dX0_save_1 : decode cX0_save 1 = .ok (.aload_n 0, 1) := dk_42 (dk_at dksX0_save_0 1 rfl rfl)
theorem dX0_save_2 : decode cX0_save 2 = .ok (.getfield 10, 3) := dk_180 0 10 (dk_at dksX0_save_0 2 rfl rfl)
theorem dX0_save_5 : decode cX0_save 5 = .ok (.invokevirtual 66, 3) := dk_182 0 66 (dk_at dksX0_save_0 5 rfl rfl)
theorem dX0_save_8 : decode cX0_save 8 = .ok (.putfield 303, 3) := dk_181 1 47 (dk_at dksX0_save_0 8 rfl rfl)
theorem dX0_save_11 : decode cX0_save 11 = .ok (.aload_n 0, 1) := dk_42 (dk_at dksX0_save_0 11 rfl rfl)
theorem dX0_save_12 : decode cX0_save 12 = .ok (.getfield 303, 3) := dk_180 1 47 (dk_at dksX0_save_0 12 rfl rfl)
theorem dX0_save_15 : decode cX0_save 15 = .ok (.getfield 106, 3) := dk_180 0 106 (dk_at dksX0_save_0 15 rfl rfl)
theorem dX0_save_18 : decode cX0_save 18 = .ok (.invokevirtual 249, 3) := dk_182 0 249 (dk_at dksX0_save_0 18 rfl rfl)
theorem dX0_save_21 : decode cX0_save 21 = .ok (.ireturn, 1) := dk_172 (dk_at dksX0_save_0 21 rfl rfl)
abbrev cX0_restore : ByteArray := prog_1_method_40_code
def yX0_restore : MethodName := ⟨RX0, "restore", "()I"⟩
def dkwX0_restore_1 : List UInt8 := [180, 0, 19, 182, 1, 50, 42, 180, 0, 10, 180, 0, 106, 182, 0, 249, 172]
abbrev dktX0_restore_1 : List UInt8 := dkwX0_restore_1 ++ []
def dkwX0_restore_0 : List UInt8 := [42, 180, 1, 47, 199, 0, 6, 16, 241, 172, 42, 42, 180, 1, 47, 182, 0, 66, 181, 0, 10, 42]
abbrev dktX0_restore_0 : List UInt8 := dkwX0_restore_0 ++ dktX0_restore_1
theorem dksX0_restore_0 : cX0_restore.data.toList.drop 0 = dktX0_restore_0 := by decide +kernel
theorem dksX0_restore_1 : cX0_restore.data.toList.drop 22 = dktX0_restore_1 := dk_seg dksX0_restore_0 22 rfl rfl
theorem dX0_restore_0 : decode cX0_restore 0 = .ok (.aload_n 0, 1) := dk_42 (dk_at dksX0_restore_0 0 rfl rfl)
theorem dX0_restore_1 : decode cX0_restore 1 = .ok (.getfield 303, 3) := dk_180 1 47 (dk_at dksX0_restore_0 1 rfl rfl)
theorem dX0_restore_4 : decode cX0_restore 4 = .ok (.ifnonnull 6, 3) := dk_199 0 6 (dk_at dksX0_restore_0 4 rfl rfl)
theorem dX0_restore_7 : decode cX0_restore 7 = .ok (.bipush (-15), 2) := dk_16 241 (dk_at dksX0_restore_0 7 rfl rfl)
theorem dX0_restore_9 : decode cX0_restore 9 = .ok (.ireturn, 1) := dk_172 (dk_at dksX0_restore_0 9 rfl rfl)
theorem dX0_restore_10 : decode cX0_restore 10 = .ok (.aload_n 0, 1) := dk_42 (dk_at dksX0_restore_0 10 rfl rfl)
theorem dX0_restore_11 : decode cX0_restore 11 = .ok (.aload_n 0, 1) := dk_42 (dk_at dksX0_restore_0 11 rfl rfl)
theorem dX0_restore_12 : decode cX0_restore 12 = .ok (.getfield 303, 3) := dk_180 1 47 (dk_at dksX0_restore_0 12 rfl rfl)
theorem dX0_restore_15 : decode cX0_restore 15 = .ok (.invokevirtual 66, 3) := dk_182 0 66 (dk_at dksX0_restore_0 15 rfl rfl)
theorem dX0_restore_18 : decode cX0_restore 18 = .ok (.putfield 10, 3) := dk_181 0 10 (dk_at dksX0_restore_0 18 rfl rfl)
theorem dX0_restore_21 : decode cX0_restore 21 = .ok (.aload_n 0, 1) := dk_42 (dk_at dksX0_restore_0 21 rfl rfl)
theorem dX0_restore_22 : decode cX0_restore 22 = .ok (.getfield 19, 3) := dk_180 0 19 (dk_at dksX0_restore_1 0 rfl rfl)
theorem dX0_restore_25 : decode cX0_restore 25 = .ok (.invokevirtual 306, 3) := dk_182 1 50 (dk_at dksX0_restore_1 3 rfl rfl)
theorem dX0_restore_28 : decode cX0_restore 28 = .ok (.aload_n 0, 1) := dk_42 (dk_at dksX0_restore_1 6 rfl rfl)
theorem dX0_restore_29 : decode cX0_restore 29 = .ok (.getfield 10, 3) := dk_180 0 10 (dk_at dksX0_restore_1 7 rfl rfl)
theorem dX0_restore_32 : decode cX0_restore 32 = .ok (.getfield 106, 3) := dk_180 0 106 (dk_at dksX0_restore_1 10 rfl rfl)
theorem dX0_restore_35 : decode cX0_restore 35 = .ok (.invokevirtual 249, 3) := dk_182 0 249 (dk_at dksX0_restore_1 13 rfl rfl)
theorem dX0_restore_38 : decode cX0_restore 38 = .ok (.ireturn, 1) := dk_172 (dk_at dksX0_restore_1 16 rfl rfl)
theorem q64 : (Jvm.Cond.initialized "BrushSellers") ∈ lw_all := lw_g (lw_at lw_m1 1 rfl) rfl
theorem q107 : (Jvm.Cond.instantiable "BrushSellers" (7 : Nat)) ∈ lw_all := lw_g (lw_at lw_m1 44 rfl) rfl
theorem q109 : (Jvm.Cond.instanceMethod ({ cls := "BrushSellers", name := "<init>", desc := "()V" } : Jvm.MethodName)) ∈ lw_all := lw_g (lw_at lw_m1 46 rfl) rfl
theorem q110 : (Jvm.Cond.code ({ cls := "BrushSellers", name := "<init>", desc := "()V" } : Jvm.MethodName) prog_1_method_1_code (1 : Nat) (Option.none : Option Jvm.ClassFile.FieldType)) ∈ lw_all := lw_g (lw_at lw_m1 47 rfl) rfl
theorem q111 : (Jvm.Cond.methodLink "BrushSellers" (1 : Nat) ({ cls := "java/lang/Object", name := "<init>", desc := "()V" } : Jvm.MethodName)) ∈ lw_all := lw_g (lw_at lw_m1 48 rfl) rfl
theorem q114 : (Jvm.Cond.classLink "BrushSellers" (7 : Nat) "BrushSellers$Company") ∈ lw_all := lw_g (lw_at lw_m1 51 rfl) rfl
theorem q116 : (Jvm.Cond.methodLink "BrushSellers" (9 : Nat) ({ cls := "BrushSellers$Company", name := "<init>", desc := "()V" } : Jvm.MethodName)) ∈ lw_all := lw_g (lw_at lw_m1 53 rfl) rfl
theorem q260 : (Jvm.Cond.selects "BrushSellers" ({ cls := "java/lang/Object", name := "getClass", desc := "()Ljava/lang/Class;" } : Jvm.MethodName) ({ cls := "java/lang/Object", name := "getClass", desc := "()Ljava/lang/Class;" } : Jvm.MethodName)) ∈ lw_all := lw_g (lw_at lw_m1 197 rfl) rfl
theorem q297 : (Jvm.Cond.fieldLinkNest "BrushSellers" (121 : Nat) "BrushSellers$Company" "houses" "Ljava/util/ArrayList;" "BrushSellers") ∈ lw_tbl := lw_at lw_m1 234 rfl
theorem q299 : (Jvm.Cond.fieldLinkNest "BrushSellers" (106 : Nat) "BrushSellers$Company" "sellers" "Ljava/util/ArrayList;" "BrushSellers") ∈ lw_tbl := lw_at lw_m1 236 rfl
theorem q301 : (Jvm.Cond.fieldLinkNest "BrushSellers" (169 : Nat) "BrushSellers$Company" "sales" "Ljava/util/LinkedList;" "BrushSellers") ∈ lw_tbl := lw_at lw_m1 238 rfl
theorem q303 : (Jvm.Cond.fieldLinkNest "BrushSellers" (127 : Nat) "BrushSellers$Company" "depot" "[I" "BrushSellers") ∈ lw_tbl := lw_at lw_m2 0 rfl
theorem q305 : (Jvm.Cond.fieldLinkNest "BrushSellers" (243 : Nat) "BrushSellers$Company" "day" "I" "BrushSellers") ∈ lw_tbl := lw_at lw_m2 2 rfl
theorem q307 : (Jvm.Cond.fieldLinkNest "BrushSellers" (246 : Nat) "BrushSellers$Company" "minutes" "I" "BrushSellers") ∈ lw_tbl := lw_at lw_m2 4 rfl
theorem q309 : (Jvm.Cond.fieldLinkNest "BrushSellers" (271 : Nat) "BrushSellers$Company" "coins" "I" "BrushSellers") ∈ lw_tbl := lw_at lw_m2 6 rfl
theorem q311 : (Jvm.Cond.fieldLinkNest "BrushSellers" (274 : Nat) "BrushSellers$Company" "got" "I" "BrushSellers") ∈ lw_tbl := lw_at lw_m2 8 rfl
theorem q313 : (Jvm.Cond.fieldLinkNest "BrushSellers" (277 : Nat) "BrushSellers$Company" "paidBack" "I" "BrushSellers") ∈ lw_tbl := lw_at lw_m2 10 rfl
theorem q315 : (Jvm.Cond.fieldLinkNest "BrushSellers" (280 : Nat) "BrushSellers$Company" "spent" "I" "BrushSellers") ∈ lw_tbl := lw_at lw_m2 12 rfl
theorem q317 : (Jvm.Cond.fieldLinkNest "BrushSellers" (259 : Nat) "BrushSellers$Company" "made" "I" "BrushSellers") ∈ lw_tbl := lw_at lw_m2 14 rfl
theorem q319 : (Jvm.Cond.fieldLinkNest "BrushSellers" (268 : Nat) "BrushSellers$Company" "thrown" "I" "BrushSellers") ∈ lw_tbl := lw_at lw_m2 16 rfl
theorem q321 : (Jvm.Cond.fieldLinkNest "BrushSellers" (284 : Nat) "BrushSellers$Company" "rings" "I" "BrushSellers") ∈ lw_tbl := lw_at lw_m2 18 rfl
theorem q323 : (Jvm.Cond.fieldLinkNest "BrushSellers" (286 : Nat) "BrushSellers$Company" "bites" "I" "BrushSellers") ∈ lw_tbl := lw_at lw_m2 20 rfl
theorem q353 : (Jvm.Cond.classLink "BrushSellers" (16 : Nat) "java/util/ArrayDeque") ∈ lw_all := lw_g (lw_at lw_m2 50 rfl) rfl
theorem q355 : (Jvm.Cond.methodLink "BrushSellers" (18 : Nat) ({ cls := "java/util/ArrayDeque", name := "<init>", desc := "()V" } : Jvm.MethodName)) ∈ lw_all := lw_g (lw_at lw_m2 52 rfl) rfl
theorem q370 : (Jvm.Cond.classLink "BrushSellers" (23 : Nat) "java/lang/StringBuilder") ∈ lw_all := lw_g (lw_at lw_m2 67 rfl) rfl
theorem q372 : (Jvm.Cond.methodLink "BrushSellers" (25 : Nat) ({ cls := "java/lang/StringBuilder", name := "<init>", desc := "()V" } : Jvm.MethodName)) ∈ lw_all := lw_g (lw_at lw_m2 69 rfl) rfl
theorem q403 : (Jvm.Cond.stringRef "BrushSellers" (30 : Nat) "") ∈ lw_tbl := lw_at lw_m2 100 rfl
theorem q404 : (Jvm.Cond.fieldLink "BrushSellers" (10 : Nat) "BrushSellers" "company" "LBrushSellers$Company;") ∈ lw_all := lw_g (lw_at lw_m2 101 rfl) rfl
theorem q405 : (Jvm.Cond.fieldLink "BrushSellers" (303 : Nat) "BrushSellers" "saved" "LBrushSellers$Company;") ∈ lw_all := lw_g (lw_at lw_m2 102 rfl) rfl
theorem q406 : (Jvm.Cond.fieldLink "BrushSellers" (19 : Nat) "BrushSellers" "past" "Ljava/util/ArrayDeque;") ∈ lw_all := lw_g (lw_at lw_m2 103 rfl) rfl
theorem q407 : (Jvm.Cond.fieldLink "BrushSellers" (49 : Nat) "BrushSellers" "reason" "I") ∈ lw_all := lw_g (lw_at lw_m2 104 rfl) rfl
theorem q408 : (Jvm.Cond.fieldLink "BrushSellers" (53 : Nat) "BrushSellers" "detail" "I") ∈ lw_all := lw_g (lw_at lw_m2 105 rfl) rfl
theorem q409 : (Jvm.Cond.fieldLink "BrushSellers" (26 : Nat) "BrushSellers" "text" "Ljava/lang/StringBuilder;") ∈ lw_all := lw_g (lw_at lw_m2 106 rfl) rfl
theorem q410 : (Jvm.Cond.fieldLink "BrushSellers" (32 : Nat) "BrushSellers" "line" "Ljava/lang/String;") ∈ lw_all := lw_g (lw_at lw_m2 107 rfl) rfl
theorem q411 : (Jvm.Cond.lays "BrushSellers" "BrushSellers" "company" "LBrushSellers$Company;") ∈ lw_all := lw_g (lw_at lw_m2 108 rfl) rfl
theorem q412 : (Jvm.Cond.soleField "BrushSellers" "company") ∈ lw_all := lw_g (lw_at lw_m2 109 rfl) rfl
theorem q413 : (Jvm.Cond.lays "BrushSellers" "BrushSellers" "saved" "LBrushSellers$Company;") ∈ lw_all := lw_g (lw_at lw_m2 110 rfl) rfl
theorem q414 : (Jvm.Cond.soleField "BrushSellers" "saved") ∈ lw_all := lw_g (lw_at lw_m2 111 rfl) rfl
theorem q415 : (Jvm.Cond.laysFinal "BrushSellers" "BrushSellers" "past" "Ljava/util/ArrayDeque;") ∈ lw_all := lw_g (lw_at lw_m2 112 rfl) rfl
theorem q416 : (Jvm.Cond.soleField "BrushSellers" "past") ∈ lw_all := lw_g (lw_at lw_m2 113 rfl) rfl
theorem q417 : (Jvm.Cond.lays "BrushSellers" "BrushSellers" "reason" "I") ∈ lw_all := lw_g (lw_at lw_m2 114 rfl) rfl
theorem q418 : (Jvm.Cond.soleField "BrushSellers" "reason") ∈ lw_all := lw_g (lw_at lw_m2 115 rfl) rfl
theorem q419 : (Jvm.Cond.lays "BrushSellers" "BrushSellers" "detail" "I") ∈ lw_all := lw_g (lw_at lw_m2 116 rfl) rfl
theorem q420 : (Jvm.Cond.soleField "BrushSellers" "detail") ∈ lw_all := lw_g (lw_at lw_m2 117 rfl) rfl
theorem q421 : (Jvm.Cond.laysFinal "BrushSellers" "BrushSellers" "text" "Ljava/lang/StringBuilder;") ∈ lw_all := lw_g (lw_at lw_m2 118 rfl) rfl
theorem q422 : (Jvm.Cond.soleField "BrushSellers" "text") ∈ lw_all := lw_g (lw_at lw_m2 119 rfl) rfl
theorem q423 : (Jvm.Cond.lays "BrushSellers" "BrushSellers" "line" "Ljava/lang/String;") ∈ lw_all := lw_g (lw_at lw_m2 120 rfl) rfl
theorem q424 : (Jvm.Cond.soleField "BrushSellers" "line") ∈ lw_all := lw_g (lw_at lw_m2 121 rfl) rfl
theorem q425 : (Jvm.Cond.superclass "BrushSellers" "java/lang/Object") ∈ lw_all := lw_g (lw_at lw_m2 122 rfl) rfl
theorem q427 : (Jvm.Cond.instanceMethod ({ cls := "BrushSellers", name := "seller", desc := "(I)I" } : Jvm.MethodName)) ∈ lw_all := lw_g (lw_at lw_m2 124 rfl) rfl
theorem q428 : (Jvm.Cond.selects "BrushSellers" ({ cls := "BrushSellers", name := "seller", desc := "(I)I" } : Jvm.MethodName) ({ cls := "BrushSellers", name := "seller", desc := "(I)I" } : Jvm.MethodName)) ∈ lw_all := lw_g (lw_at lw_m2 125 rfl) rfl
theorem q429 : (Jvm.Cond.codeWith ({ cls := "BrushSellers", name := "seller", desc := "(I)I" } : Jvm.MethodName) prog_1_method_9_code (4 : Nat) (Option.some Jvm.ClassFile.FieldType.int) [((21 : Nat), (34 : Nat), (35 : Nat), (40 : Nat))]) ∈ lw_all := lw_g (lw_at lw_m2 126 rfl) rfl
theorem q430 : (Jvm.Cond.classLink "BrushSellers" (40 : Nat) "BrushSellers$Refused") ∈ lw_all := lw_g (lw_at lw_m2 127 rfl) rfl
theorem q431 : (Jvm.Cond.methodLink "BrushSellers" (36 : Nat) ({ cls := "BrushSellers", name := "isIn", desc := "(III)Z" } : Jvm.MethodName)) ∈ lw_all := lw_g (lw_at lw_m2 128 rfl) rfl
theorem q432 : (Jvm.Cond.static ({ cls := "BrushSellers", name := "isIn", desc := "(III)Z" } : Jvm.MethodName)) ∈ lw_all := lw_g (lw_at lw_m2 129 rfl) rfl
theorem q433 : (Jvm.Cond.code ({ cls := "BrushSellers", name := "isIn", desc := "(III)Z" } : Jvm.MethodName) prog_1_method_2_code (3 : Nat) (Option.some Jvm.ClassFile.FieldType.boolean)) ∈ lw_all := lw_g (lw_at lw_m2 130 rfl) rfl
theorem q434 : (Jvm.Cond.methodLink "BrushSellers" (66 : Nat) ({ cls := "BrushSellers$Company", name := "copy", desc := "()LBrushSellers$Company;" } : Jvm.MethodName)) ∈ lw_all := lw_g (lw_at lw_m2 131 rfl) rfl
theorem q1046 : (Jvm.Cond.methodLink "BrushSellers" (70 : Nat) ({ cls := "BrushSellers$Company", name := "comes", desc := "(I)I" } : Jvm.MethodName)) ∈ lw_all := lw_g (lw_at lw_m5 23 rfl) rfl
theorem q1052 : (Jvm.Cond.static ({ cls := "BrushSellers", name := "refuse", desc := "(ZII)V" } : Jvm.MethodName)) ∈ lw_all := lw_g (lw_at lw_m5 29 rfl) rfl
theorem q1053 : (Jvm.Cond.code ({ cls := "BrushSellers", name := "refuse", desc := "(ZII)V" } : Jvm.MethodName) prog_1_method_6_code (3 : Nat) (Option.none : Option Jvm.ClassFile.FieldType)) ∈ lw_all := lw_g (lw_at lw_m5 30 rfl) rfl
theorem q1062 : (Jvm.Cond.methodLink "BrushSellers" (42 : Nat) ({ cls := "BrushSellers$Refused", name := "<init>", desc := "(II)V" } : Jvm.MethodName)) ∈ lw_all := lw_g (lw_at lw_m5 39 rfl) rfl
theorem q1072 : (Jvm.Cond.fieldLinkNest "BrushSellers" (45 : Nat) "BrushSellers$Refused" "reason" "I" "BrushSellers") ∈ lw_tbl := lw_at lw_m5 49 rfl
theorem q1074 : (Jvm.Cond.fieldLinkNest "BrushSellers" (50 : Nat) "BrushSellers$Refused" "detail" "I" "BrushSellers") ∈ lw_tbl := lw_at lw_m5 51 rfl
theorem q1082 : (Jvm.Cond.methodLink "BrushSellers" (74 : Nat) ({ cls := "BrushSellers", name := "changed", desc := "(LBrushSellers$Company;I)I" } : Jvm.MethodName)) ∈ lw_all := lw_g (lw_at lw_m5 59 rfl) rfl
theorem q1083 : (Jvm.Cond.privateMethod ({ cls := "BrushSellers", name := "changed", desc := "(LBrushSellers$Company;I)I" } : Jvm.MethodName)) ∈ lw_tbl := lw_at lw_m5 60 rfl
theorem q1084 : (Jvm.Cond.instanceMethod ({ cls := "BrushSellers", name := "changed", desc := "(LBrushSellers$Company;I)I" } : Jvm.MethodName)) ∈ lw_all := lw_g (lw_at lw_m5 61 rfl) rfl
theorem q1085 : (Jvm.Cond.code ({ cls := "BrushSellers", name := "changed", desc := "(LBrushSellers$Company;I)I" } : Jvm.MethodName) prog_1_method_8_code (3 : Nat) (Option.some Jvm.ClassFile.FieldType.int)) ∈ lw_all := lw_g (lw_at lw_m5 62 rfl) rfl
theorem q1086 : (Jvm.Cond.methodLink "BrushSellers" (54 : Nat) ({ cls := "java/util/ArrayDeque", name := "addLast", desc := "(Ljava/lang/Object;)V" } : Jvm.MethodName)) ∈ lw_all := lw_g (lw_at lw_m5 63 rfl) rfl
theorem q1105 : (Jvm.Cond.methodLink "BrushSellers" (58 : Nat) ({ cls := "java/util/ArrayDeque", name := "size", desc := "()I" } : Jvm.MethodName)) ∈ lw_all := lw_g (lw_at lw_m5 82 rfl) rfl
theorem q1112 : (Jvm.Cond.methodLink "BrushSellers" (62 : Nat) ({ cls := "java/util/ArrayDeque", name := "removeFirst", desc := "()Ljava/lang/Object;" } : Jvm.MethodName)) ∈ lw_all := lw_g (lw_at lw_m5 89 rfl) rfl
theorem q1123 : (Jvm.Cond.methodLink "BrushSellers" (78 : Nat) ({ cls := "BrushSellers", name := "refused", desc := "(LBrushSellers$Refused;)I" } : Jvm.MethodName)) ∈ lw_all := lw_g (lw_at lw_m5 100 rfl) rfl
theorem q1124 : (Jvm.Cond.privateMethod ({ cls := "BrushSellers", name := "refused", desc := "(LBrushSellers$Refused;)I" } : Jvm.MethodName)) ∈ lw_tbl := lw_at lw_m5 101 rfl
theorem q1125 : (Jvm.Cond.instanceMethod ({ cls := "BrushSellers", name := "refused", desc := "(LBrushSellers$Refused;)I" } : Jvm.MethodName)) ∈ lw_all := lw_g (lw_at lw_m5 102 rfl) rfl
theorem q1126 : (Jvm.Cond.code ({ cls := "BrushSellers", name := "refused", desc := "(LBrushSellers$Refused;)I" } : Jvm.MethodName) prog_1_method_7_code (2 : Nat) (Option.some Jvm.ClassFile.FieldType.int)) ∈ lw_all := lw_g (lw_at lw_m5 103 rfl) rfl
theorem q1128 : (Jvm.Cond.instanceMethod ({ cls := "BrushSellers", name := "dog", desc := "(II)I" } : Jvm.MethodName)) ∈ lw_all := lw_g (lw_at lw_m5 105 rfl) rfl
theorem q1129 : (Jvm.Cond.selects "BrushSellers" ({ cls := "BrushSellers", name := "dog", desc := "(II)I" } : Jvm.MethodName) ({ cls := "BrushSellers", name := "dog", desc := "(II)I" } : Jvm.MethodName)) ∈ lw_all := lw_g (lw_at lw_m5 106 rfl) rfl
theorem q1130 : (Jvm.Cond.codeWith ({ cls := "BrushSellers", name := "dog", desc := "(II)I" } : Jvm.MethodName) prog_1_method_10_code (5 : Nat) (Option.some Jvm.ClassFile.FieldType.int) [((31 : Nat), (45 : Nat), (46 : Nat), (40 : Nat))]) ∈ lw_all := lw_g (lw_at lw_m5 107 rfl) rfl
theorem q1131 : (Jvm.Cond.methodLink "BrushSellers" (82 : Nat) ({ cls := "BrushSellers", name := "isHouse", desc := "(I)Z" } : Jvm.MethodName)) ∈ lw_all := lw_g (lw_at lw_m5 108 rfl) rfl
theorem q1132 : (Jvm.Cond.static ({ cls := "BrushSellers", name := "isHouse", desc := "(I)Z" } : Jvm.MethodName)) ∈ lw_all := lw_g (lw_at lw_m5 109 rfl) rfl
theorem q1133 : (Jvm.Cond.code ({ cls := "BrushSellers", name := "isHouse", desc := "(I)Z" } : Jvm.MethodName) prog_1_method_3_code (1 : Nat) (Option.some Jvm.ClassFile.FieldType.boolean)) ∈ lw_all := lw_g (lw_at lw_m5 110 rfl) rfl
theorem q1134 : (Jvm.Cond.methodLink "BrushSellers" (86 : Nat) ({ cls := "BrushSellers$Company", name := "bringsDog", desc := "(II)I" } : Jvm.MethodName)) ∈ lw_all := lw_g (lw_at lw_m5 111 rfl) rfl
theorem q1143 : (Jvm.Cond.instanceMethod ({ cls := "BrushSellers", name := "make", desc := "(II)I" } : Jvm.MethodName)) ∈ lw_all := lw_g (lw_at lw_m5 120 rfl) rfl
theorem q1144 : (Jvm.Cond.selects "BrushSellers" ({ cls := "BrushSellers", name := "make", desc := "(II)I" } : Jvm.MethodName) ({ cls := "BrushSellers", name := "make", desc := "(II)I" } : Jvm.MethodName)) ∈ lw_all := lw_g (lw_at lw_m5 121 rfl) rfl
theorem q1145 : (Jvm.Cond.codeWith ({ cls := "BrushSellers", name := "make", desc := "(II)I" } : Jvm.MethodName) prog_1_method_11_code (5 : Nat) (Option.some Jvm.ClassFile.FieldType.int) [((31 : Nat), (45 : Nat), (46 : Nat), (40 : Nat))]) ∈ lw_all := lw_g (lw_at lw_m5 122 rfl) rfl
theorem q1146 : (Jvm.Cond.methodLink "BrushSellers" (90 : Nat) ({ cls := "BrushSellers", name := "isBristle", desc := "(I)Z" } : Jvm.MethodName)) ∈ lw_all := lw_g (lw_at lw_m5 123 rfl) rfl
theorem q1147 : (Jvm.Cond.static ({ cls := "BrushSellers", name := "isBristle", desc := "(I)Z" } : Jvm.MethodName)) ∈ lw_all := lw_g (lw_at lw_m5 124 rfl) rfl
theorem q1148 : (Jvm.Cond.code ({ cls := "BrushSellers", name := "isBristle", desc := "(I)Z" } : Jvm.MethodName) prog_1_method_4_code (1 : Nat) (Option.some Jvm.ClassFile.FieldType.boolean)) ∈ lw_all := lw_g (lw_at lw_m5 125 rfl) rfl
theorem q1149 : (Jvm.Cond.methodLink "BrushSellers" (93 : Nat) ({ cls := "BrushSellers$Company", name := "makes", desc := "(II)I" } : Jvm.MethodName)) ∈ lw_all := lw_g (lw_at lw_m5 126 rfl) rfl
theorem q1158 : (Jvm.Cond.instanceMethod ({ cls := "BrushSellers", name := "take", desc := "(III)I" } : Jvm.MethodName)) ∈ lw_all := lw_g (lw_at lw_m5 135 rfl) rfl
theorem q1159 : (Jvm.Cond.selects "BrushSellers" ({ cls := "BrushSellers", name := "take", desc := "(III)I" } : Jvm.MethodName) ({ cls := "BrushSellers", name := "take", desc := "(III)I" } : Jvm.MethodName)) ∈ lw_all := lw_g (lw_at lw_m5 136 rfl) rfl
theorem q1160 : (Jvm.Cond.codeWith ({ cls := "BrushSellers", name := "take", desc := "(III)I" } : Jvm.MethodName) prog_1_method_13_code (6 : Nat) (Option.some Jvm.ClassFile.FieldType.int) [((40 : Nat), (56 : Nat), (57 : Nat), (40 : Nat))]) ∈ lw_all := lw_g (lw_at lw_m5 137 rfl) rfl
theorem q1161 : (Jvm.Cond.methodLink "BrushSellers" (96 : Nat) ({ cls := "BrushSellers$Company", name := "isSeller", desc := "(I)Z" } : Jvm.MethodName)) ∈ lw_all := lw_g (lw_at lw_m5 138 rfl) rfl
theorem q1166 : (Jvm.Cond.methodLink "BrushSellers" (99 : Nat) ({ cls := "BrushSellers", name := "areTaken", desc := "(I)Z" } : Jvm.MethodName)) ∈ lw_all := lw_g (lw_at lw_m5 143 rfl) rfl
theorem q1167 : (Jvm.Cond.static ({ cls := "BrushSellers", name := "areTaken", desc := "(I)Z" } : Jvm.MethodName)) ∈ lw_all := lw_g (lw_at lw_m5 144 rfl) rfl
theorem q1168 : (Jvm.Cond.code ({ cls := "BrushSellers", name := "areTaken", desc := "(I)Z" } : Jvm.MethodName) prog_1_method_12_code (1 : Nat) (Option.some Jvm.ClassFile.FieldType.boolean)) ∈ lw_all := lw_g (lw_at lw_m5 145 rfl) rfl
theorem q1169 : (Jvm.Cond.methodLink "BrushSellers" (102 : Nat) ({ cls := "BrushSellers$Company", name := "takes", desc := "(III)I" } : Jvm.MethodName)) ∈ lw_all := lw_g (lw_at lw_m5 146 rfl) rfl
theorem q1208 : (Jvm.Cond.instanceMethod ({ cls := "BrushSellers", name := "sellerOf", desc := "(II)I" } : Jvm.MethodName)) ∈ lw_all := lw_g (lw_at lw_m5 185 rfl) rfl
theorem q1209 : (Jvm.Cond.selects "BrushSellers" ({ cls := "BrushSellers", name := "sellerOf", desc := "(II)I" } : Jvm.MethodName) ({ cls := "BrushSellers", name := "sellerOf", desc := "(II)I" } : Jvm.MethodName)) ∈ lw_all := lw_g (lw_at lw_m5 186 rfl) rfl
theorem q1210 : (Jvm.Cond.code ({ cls := "BrushSellers", name := "sellerOf", desc := "(II)I" } : Jvm.MethodName) prog_1_method_14_code (3 : Nat) (Option.some Jvm.ClassFile.FieldType.int)) ∈ lw_all := lw_g (lw_at lw_m5 187 rfl) rfl
theorem q1211 : (Jvm.Cond.methodLink "BrushSellers" (110 : Nat) ({ cls := "java/util/ArrayList", name := "get", desc := "(I)Ljava/lang/Object;" } : Jvm.MethodName)) ∈ lw_all := lw_g (lw_at lw_m5 188 rfl) rfl
theorem q1212 : (Jvm.Cond.classLink "BrushSellers" (116 : Nat) "BrushSellers$Seller") ∈ lw_all := lw_g (lw_at lw_m5 189 rfl) rfl
theorem q1213 : (Jvm.Cond.methodLink "BrushSellers" (118 : Nat) ({ cls := "BrushSellers$Seller", name := "value", desc := "(I)I" } : Jvm.MethodName)) ∈ lw_all := lw_g (lw_at lw_m5 190 rfl) rfl
theorem q1218 : (Jvm.Cond.instanceMethod ({ cls := "BrushSellers", name := "houseOf", desc := "(II)I" } : Jvm.MethodName)) ∈ lw_all := lw_g (lw_at lw_m5 195 rfl) rfl
theorem q1219 : (Jvm.Cond.selects "BrushSellers" ({ cls := "BrushSellers", name := "houseOf", desc := "(II)I" } : Jvm.MethodName) ({ cls := "BrushSellers", name := "houseOf", desc := "(II)I" } : Jvm.MethodName)) ∈ lw_all := lw_g (lw_at lw_m5 196 rfl) rfl
theorem q1220 : (Jvm.Cond.code ({ cls := "BrushSellers", name := "houseOf", desc := "(II)I" } : Jvm.MethodName) prog_1_method_15_code (3 : Nat) (Option.some Jvm.ClassFile.FieldType.int)) ∈ lw_all := lw_g (lw_at lw_m5 197 rfl) rfl
theorem q1221 : (Jvm.Cond.classLink "BrushSellers" (124 : Nat) "BrushSellers$House") ∈ lw_all := lw_g (lw_at lw_m5 198 rfl) rfl
theorem q1222 : (Jvm.Cond.methodLink "BrushSellers" (126 : Nat) ({ cls := "BrushSellers$House", name := "value", desc := "(I)I" } : Jvm.MethodName)) ∈ lw_all := lw_g (lw_at lw_m5 199 rfl) rfl
theorem q1247 : (Jvm.Cond.instanceMethod ({ cls := "BrushSellers", name := "depot", desc := "(I)I" } : Jvm.MethodName)) ∈ lw_all := lw_g (lw_at lw_m5 224 rfl) rfl
theorem q1248 : (Jvm.Cond.selects "BrushSellers" ({ cls := "BrushSellers", name := "depot", desc := "(I)I" } : Jvm.MethodName) ({ cls := "BrushSellers", name := "depot", desc := "(I)I" } : Jvm.MethodName)) ∈ lw_all := lw_g (lw_at lw_m5 225 rfl) rfl
theorem q1249 : (Jvm.Cond.code ({ cls := "BrushSellers", name := "depot", desc := "(I)I" } : Jvm.MethodName) prog_1_method_16_code (2 : Nat) (Option.some Jvm.ClassFile.FieldType.int)) ∈ lw_all := lw_g (lw_at lw_m5 226 rfl) rfl
theorem q1251 : (Jvm.Cond.instanceMethod ({ cls := "BrushSellers", name := "go", desc := "(II)I" } : Jvm.MethodName)) ∈ lw_all := lw_g (lw_at lw_m5 228 rfl) rfl
theorem q1252 : (Jvm.Cond.selects "BrushSellers" ({ cls := "BrushSellers", name := "go", desc := "(II)I" } : Jvm.MethodName) ({ cls := "BrushSellers", name := "go", desc := "(II)I" } : Jvm.MethodName)) ∈ lw_all := lw_g (lw_at lw_m5 229 rfl) rfl
theorem q1253 : (Jvm.Cond.codeWith ({ cls := "BrushSellers", name := "go", desc := "(II)I" } : Jvm.MethodName) prog_1_method_17_code (5 : Nat) (Option.some Jvm.ClassFile.FieldType.int) [((29 : Nat), (43 : Nat), (44 : Nat), (40 : Nat))]) ∈ lw_all := lw_g (lw_at lw_m5 230 rfl) rfl
theorem q1254 : (Jvm.Cond.methodLink "BrushSellers" (131 : Nat) ({ cls := "BrushSellers$Company", name := "goes", desc := "(II)I" } : Jvm.MethodName)) ∈ lw_all := lw_g (lw_at lw_m5 231 rfl) rfl
theorem q1283 : (Jvm.Cond.instanceMethod ({ cls := "BrushSellers", name := "soles", desc := "(I)I" } : Jvm.MethodName)) ∈ lw_all := lw_g (lw_at lw_m6 20 rfl) rfl
theorem q1284 : (Jvm.Cond.selects "BrushSellers" ({ cls := "BrushSellers", name := "soles", desc := "(I)I" } : Jvm.MethodName) ({ cls := "BrushSellers", name := "soles", desc := "(I)I" } : Jvm.MethodName)) ∈ lw_all := lw_g (lw_at lw_m6 21 rfl) rfl
theorem q1285 : (Jvm.Cond.codeWith ({ cls := "BrushSellers", name := "soles", desc := "(I)I" } : Jvm.MethodName) prog_1_method_18_code (4 : Nat) (Option.some Jvm.ClassFile.FieldType.int) [((22 : Nat), (35 : Nat), (36 : Nat), (40 : Nat))]) ∈ lw_all := lw_g (lw_at lw_m6 22 rfl) rfl
theorem q1286 : (Jvm.Cond.methodLink "BrushSellers" (134 : Nat) ({ cls := "BrushSellers$Company", name := "soles", desc := "(I)I" } : Jvm.MethodName)) ∈ lw_all := lw_g (lw_at lw_m6 23 rfl) rfl
theorem q1291 : (Jvm.Cond.instanceMethod ({ cls := "BrushSellers", name := "pet", desc := "(I)I" } : Jvm.MethodName)) ∈ lw_all := lw_g (lw_at lw_m6 28 rfl) rfl
theorem q1292 : (Jvm.Cond.selects "BrushSellers" ({ cls := "BrushSellers", name := "pet", desc := "(I)I" } : Jvm.MethodName) ({ cls := "BrushSellers", name := "pet", desc := "(I)I" } : Jvm.MethodName)) ∈ lw_all := lw_g (lw_at lw_m6 29 rfl) rfl
theorem q1293 : (Jvm.Cond.codeWith ({ cls := "BrushSellers", name := "pet", desc := "(I)I" } : Jvm.MethodName) prog_1_method_19_code (4 : Nat) (Option.some Jvm.ClassFile.FieldType.int) [((22 : Nat), (35 : Nat), (36 : Nat), (40 : Nat))]) ∈ lw_all := lw_g (lw_at lw_m6 30 rfl) rfl
theorem q1294 : (Jvm.Cond.methodLink "BrushSellers" (137 : Nat) ({ cls := "BrushSellers$Company", name := "pets", desc := "(I)I" } : Jvm.MethodName)) ∈ lw_all := lw_g (lw_at lw_m6 31 rfl) rfl
theorem q1304 : (Jvm.Cond.instanceMethod ({ cls := "BrushSellers", name := "rounds", desc := "(II)I" } : Jvm.MethodName)) ∈ lw_all := lw_g (lw_at lw_m6 41 rfl) rfl
theorem q1305 : (Jvm.Cond.selects "BrushSellers" ({ cls := "BrushSellers", name := "rounds", desc := "(II)I" } : Jvm.MethodName) ({ cls := "BrushSellers", name := "rounds", desc := "(II)I" } : Jvm.MethodName)) ∈ lw_all := lw_g (lw_at lw_m6 42 rfl) rfl
theorem q1306 : (Jvm.Cond.code ({ cls := "BrushSellers", name := "rounds", desc := "(II)I" } : Jvm.MethodName) prog_1_method_20_code (4 : Nat) (Option.some Jvm.ClassFile.FieldType.int)) ∈ lw_all := lw_g (lw_at lw_m6 43 rfl) rfl
theorem q1307 : (Jvm.Cond.methodLink "BrushSellers" (143 : Nat) ({ cls := "BrushSellers$Seller", name := "rounds", desc := "(I)I" } : Jvm.MethodName)) ∈ lw_all := lw_g (lw_at lw_m6 44 rfl) rfl
theorem q1312 : (Jvm.Cond.instanceMethod ({ cls := "BrushSellers", name := "roundsAgain", desc := "(II)I" } : Jvm.MethodName)) ∈ lw_all := lw_g (lw_at lw_m6 49 rfl) rfl
theorem q1313 : (Jvm.Cond.selects "BrushSellers" ({ cls := "BrushSellers", name := "roundsAgain", desc := "(II)I" } : Jvm.MethodName) ({ cls := "BrushSellers", name := "roundsAgain", desc := "(II)I" } : Jvm.MethodName)) ∈ lw_all := lw_g (lw_at lw_m6 50 rfl) rfl
theorem q1314 : (Jvm.Cond.code ({ cls := "BrushSellers", name := "roundsAgain", desc := "(II)I" } : Jvm.MethodName) prog_1_method_21_code (4 : Nat) (Option.some Jvm.ClassFile.FieldType.int)) ∈ lw_all := lw_g (lw_at lw_m6 51 rfl) rfl
theorem q1315 : (Jvm.Cond.methodLink "BrushSellers" (146 : Nat) ({ cls := "BrushSellers$Seller", name := "roundsAgain", desc := "(I)I" } : Jvm.MethodName)) ∈ lw_all := lw_g (lw_at lw_m6 52 rfl) rfl
theorem q1320 : (Jvm.Cond.instanceMethod ({ cls := "BrushSellers", name := "would", desc := "(IIII)I" } : Jvm.MethodName)) ∈ lw_all := lw_g (lw_at lw_m6 57 rfl) rfl
theorem q1321 : (Jvm.Cond.selects "BrushSellers" ({ cls := "BrushSellers", name := "would", desc := "(IIII)I" } : Jvm.MethodName) ({ cls := "BrushSellers", name := "would", desc := "(IIII)I" } : Jvm.MethodName)) ∈ lw_all := lw_g (lw_at lw_m6 58 rfl) rfl
theorem q1322 : (Jvm.Cond.code ({ cls := "BrushSellers", name := "would", desc := "(IIII)I" } : Jvm.MethodName) prog_1_method_22_code (5 : Nat) (Option.some Jvm.ClassFile.FieldType.int)) ∈ lw_all := lw_g (lw_at lw_m6 59 rfl) rfl
theorem q1323 : (Jvm.Cond.methodLink "BrushSellers" (149 : Nat) ({ cls := "BrushSellers", name := "isPrice", desc := "(I)Z" } : Jvm.MethodName)) ∈ lw_all := lw_g (lw_at lw_m6 60 rfl) rfl
theorem q1324 : (Jvm.Cond.static ({ cls := "BrushSellers", name := "isPrice", desc := "(I)Z" } : Jvm.MethodName)) ∈ lw_all := lw_g (lw_at lw_m6 61 rfl) rfl
theorem q1325 : (Jvm.Cond.code ({ cls := "BrushSellers", name := "isPrice", desc := "(I)Z" } : Jvm.MethodName) prog_1_method_5_code (1 : Nat) (Option.some Jvm.ClassFile.FieldType.boolean)) ∈ lw_all := lw_g (lw_at lw_m6 62 rfl) rfl
theorem q1326 : (Jvm.Cond.methodLink "BrushSellers" (152 : Nat) ({ cls := "BrushSellers$Company", name := "would", desc := "(LBrushSellers$Seller;LBrushSellers$House;II)I" } : Jvm.MethodName)) ∈ lw_all := lw_g (lw_at lw_m6 63 rfl) rfl
theorem q1346 : (Jvm.Cond.instanceMethod ({ cls := "BrushSellers", name := "bestHouse", desc := "(III)I" } : Jvm.MethodName)) ∈ lw_all := lw_g (lw_at lw_m6 83 rfl) rfl
theorem q1347 : (Jvm.Cond.selects "BrushSellers" ({ cls := "BrushSellers", name := "bestHouse", desc := "(III)I" } : Jvm.MethodName) ({ cls := "BrushSellers", name := "bestHouse", desc := "(III)I" } : Jvm.MethodName)) ∈ lw_all := lw_g (lw_at lw_m6 84 rfl) rfl
theorem q1348 : (Jvm.Cond.code ({ cls := "BrushSellers", name := "bestHouse", desc := "(III)I" } : Jvm.MethodName) prog_1_method_23_code (4 : Nat) (Option.some Jvm.ClassFile.FieldType.int)) ∈ lw_all := lw_g (lw_at lw_m6 85 rfl) rfl
theorem q1349 : (Jvm.Cond.methodLink "BrushSellers" (156 : Nat) ({ cls := "BrushSellers$Company", name := "bestHouse", desc := "(LBrushSellers$Seller;II)I" } : Jvm.MethodName)) ∈ lw_all := lw_g (lw_at lw_m6 86 rfl) rfl
theorem q1355 : (Jvm.Cond.instanceMethod ({ cls := "BrushSellers", name := "ring", desc := "(III)I" } : Jvm.MethodName)) ∈ lw_all := lw_g (lw_at lw_m6 92 rfl) rfl
theorem q1356 : (Jvm.Cond.selects "BrushSellers" ({ cls := "BrushSellers", name := "ring", desc := "(III)I" } : Jvm.MethodName) ({ cls := "BrushSellers", name := "ring", desc := "(III)I" } : Jvm.MethodName)) ∈ lw_all := lw_g (lw_at lw_m6 93 rfl) rfl
theorem q1357 : (Jvm.Cond.codeWith ({ cls := "BrushSellers", name := "ring", desc := "(III)I" } : Jvm.MethodName) prog_1_method_24_code (6 : Nat) (Option.some Jvm.ClassFile.FieldType.int) [((40 : Nat), (56 : Nat), (57 : Nat), (40 : Nat))]) ∈ lw_all := lw_g (lw_at lw_m6 94 rfl) rfl
theorem q1358 : (Jvm.Cond.methodLink "BrushSellers" (160 : Nat) ({ cls := "BrushSellers$Company", name := "rings", desc := "(III)I" } : Jvm.MethodName)) ∈ lw_all := lw_g (lw_at lw_m6 95 rfl) rfl
theorem q1391 : (Jvm.Cond.instanceMethod ({ cls := "BrushSellers", name := "back", desc := "(I)I" } : Jvm.MethodName)) ∈ lw_all := lw_g (lw_at lw_m6 128 rfl) rfl
theorem q1392 : (Jvm.Cond.selects "BrushSellers" ({ cls := "BrushSellers", name := "back", desc := "(I)I" } : Jvm.MethodName) ({ cls := "BrushSellers", name := "back", desc := "(I)I" } : Jvm.MethodName)) ∈ lw_all := lw_g (lw_at lw_m6 129 rfl) rfl
theorem q1393 : (Jvm.Cond.codeWith ({ cls := "BrushSellers", name := "back", desc := "(I)I" } : Jvm.MethodName) prog_1_method_25_code (4 : Nat) (Option.some Jvm.ClassFile.FieldType.int) [((22 : Nat), (35 : Nat), (36 : Nat), (40 : Nat))]) ∈ lw_all := lw_g (lw_at lw_m6 130 rfl) rfl
theorem q1394 : (Jvm.Cond.methodLink "BrushSellers" (163 : Nat) ({ cls := "BrushSellers$Company", name := "isSale", desc := "(I)Z" } : Jvm.MethodName)) ∈ lw_all := lw_g (lw_at lw_m6 131 rfl) rfl
theorem q1398 : (Jvm.Cond.methodLink "BrushSellers" (166 : Nat) ({ cls := "BrushSellers$Company", name := "takesBack", desc := "(I)I" } : Jvm.MethodName)) ∈ lw_all := lw_g (lw_at lw_m6 135 rfl) rfl
theorem q1404 : (Jvm.Cond.instanceMethod ({ cls := "BrushSellers", name := "saleOf", desc := "(II)I" } : Jvm.MethodName)) ∈ lw_all := lw_g (lw_at lw_m6 141 rfl) rfl
theorem q1405 : (Jvm.Cond.selects "BrushSellers" ({ cls := "BrushSellers", name := "saleOf", desc := "(II)I" } : Jvm.MethodName) ({ cls := "BrushSellers", name := "saleOf", desc := "(II)I" } : Jvm.MethodName)) ∈ lw_all := lw_g (lw_at lw_m6 142 rfl) rfl
theorem q1406 : (Jvm.Cond.code ({ cls := "BrushSellers", name := "saleOf", desc := "(II)I" } : Jvm.MethodName) prog_1_method_26_code (3 : Nat) (Option.some Jvm.ClassFile.FieldType.int)) ∈ lw_all := lw_g (lw_at lw_m6 143 rfl) rfl
theorem q1407 : (Jvm.Cond.methodLink "BrushSellers" (173 : Nat) ({ cls := "java/util/LinkedList", name := "get", desc := "(I)Ljava/lang/Object;" } : Jvm.MethodName)) ∈ lw_all := lw_g (lw_at lw_m6 144 rfl) rfl
theorem q1408 : (Jvm.Cond.classLink "BrushSellers" (176 : Nat) "BrushSellers$Sale") ∈ lw_all := lw_g (lw_at lw_m6 145 rfl) rfl
theorem q1409 : (Jvm.Cond.methodLink "BrushSellers" (178 : Nat) ({ cls := "BrushSellers$Sale", name := "value", desc := "(I)I" } : Jvm.MethodName)) ∈ lw_all := lw_g (lw_at lw_m6 146 rfl) rfl
theorem q1414 : (Jvm.Cond.instanceMethod ({ cls := "BrushSellers", name := "day", desc := "()I" } : Jvm.MethodName)) ∈ lw_all := lw_g (lw_at lw_m6 151 rfl) rfl
theorem q1415 : (Jvm.Cond.selects "BrushSellers" ({ cls := "BrushSellers", name := "day", desc := "()I" } : Jvm.MethodName) ({ cls := "BrushSellers", name := "day", desc := "()I" } : Jvm.MethodName)) ∈ lw_all := lw_g (lw_at lw_m6 152 rfl) rfl
theorem q1416 : (Jvm.Cond.code ({ cls := "BrushSellers", name := "day", desc := "()I" } : Jvm.MethodName) prog_1_method_27_code (2 : Nat) (Option.some Jvm.ClassFile.FieldType.int)) ∈ lw_all := lw_g (lw_at lw_m6 153 rfl) rfl
theorem q1417 : (Jvm.Cond.methodLink "BrushSellers" (179 : Nat) ({ cls := "BrushSellers$Company", name := "dayEnds", desc := "()I" } : Jvm.MethodName)) ∈ lw_all := lw_g (lw_at lw_m6 154 rfl) rfl
theorem q1426 : (Jvm.Cond.instanceMethod ({ cls := "BrushSellers", name := "append", desc := "(I)I" } : Jvm.MethodName)) ∈ lw_all := lw_g (lw_at lw_m6 163 rfl) rfl
theorem q1427 : (Jvm.Cond.selects "BrushSellers" ({ cls := "BrushSellers", name := "append", desc := "(I)I" } : Jvm.MethodName) ({ cls := "BrushSellers", name := "append", desc := "(I)I" } : Jvm.MethodName)) ∈ lw_all := lw_g (lw_at lw_m6 164 rfl) rfl
theorem q1428 : (Jvm.Cond.code ({ cls := "BrushSellers", name := "append", desc := "(I)I" } : Jvm.MethodName) prog_1_method_28_code (2 : Nat) (Option.some Jvm.ClassFile.FieldType.int)) ∈ lw_all := lw_g (lw_at lw_m6 165 rfl) rfl
theorem q1429 : (Jvm.Cond.methodLink "BrushSellers" (182 : Nat) ({ cls := "java/lang/StringBuilder", name := "length", desc := "()I" } : Jvm.MethodName)) ∈ lw_all := lw_g (lw_at lw_m6 166 rfl) rfl
theorem q1430 : (Jvm.Cond.methodLink "BrushSellers" (185 : Nat) ({ cls := "java/lang/StringBuilder", name := "append", desc := "(C)Ljava/lang/StringBuilder;" } : Jvm.MethodName)) ∈ lw_all := lw_g (lw_at lw_m6 167 rfl) rfl
theorem q1451 : (Jvm.Cond.instanceMethod ({ cls := "BrushSellers", name := "run", desc := "()I" } : Jvm.MethodName)) ∈ lw_all := lw_g (lw_at lw_m6 188 rfl) rfl
theorem q1452 : (Jvm.Cond.selects "BrushSellers" ({ cls := "BrushSellers", name := "run", desc := "()I" } : Jvm.MethodName) ({ cls := "BrushSellers", name := "run", desc := "()I" } : Jvm.MethodName)) ∈ lw_all := lw_g (lw_at lw_m6 189 rfl) rfl
theorem q1453 : (Jvm.Cond.codeWith ({ cls := "BrushSellers", name := "run", desc := "()I" } : Jvm.MethodName) prog_1_method_29_code (7 : Nat) (Option.some Jvm.ClassFile.FieldType.int) [((0 : Nat), (99 : Nat), (110 : Nat), (225 : Nat)), ((0 : Nat), (99 : Nat), (130 : Nat), (40 : Nat)), ((0 : Nat), (99 : Nat), (147 : Nat), (0 : Nat)), ((110 : Nat), (120 : Nat), (147 : Nat), (0 : Nat)), ((130 : Nat), (137 : Nat), (147 : Nat), (0 : Nat)), ((147 : Nat), (149 : Nat), (147 : Nat), (0 : Nat))]) ∈ lw_all := lw_g (lw_at lw_m6 190 rfl) rfl
theorem q1454 : (Jvm.Cond.classLink "BrushSellers" (225 : Nat) "BrushSellers$Wrong") ∈ lw_all := lw_g (lw_at lw_m6 191 rfl) rfl
theorem q1455 : (Jvm.Cond.classLink "BrushSellers" (189 : Nat) "BrushSellers$Reader") ∈ lw_all := lw_g (lw_at lw_m6 192 rfl) rfl
theorem q1457 : (Jvm.Cond.methodLink "BrushSellers" (191 : Nat) ({ cls := "BrushSellers$Reader", name := "<init>", desc := "(Ljava/lang/CharSequence;)V" } : Jvm.MethodName)) ∈ lw_all := lw_g (lw_at lw_m6 194 rfl) rfl
theorem q1480 : (Jvm.Cond.methodLink "BrushSellers" (194 : Nat) ({ cls := "BrushSellers$Reader", name := "orders", desc := "()Ljava/util/LinkedList;" } : Jvm.MethodName)) ∈ lw_all := lw_g (lw_at lw_m6 217 rfl) rfl
theorem q1567 : (Jvm.Cond.fieldLinkNest "BrushSellers" (227 : Nat) "BrushSellers$Wrong" "at" "I" "BrushSellers") ∈ lw_tbl := lw_at lw_m7 64 rfl
theorem q1664 : (Jvm.Cond.methodLink "BrushSellers" (198 : Nat) ({ cls := "java/util/LinkedList", name := "iterator", desc := "()Ljava/util/Iterator;" } : Jvm.MethodName)) ∈ lw_all := lw_g (lw_at lw_m7 161 rfl) rfl
theorem q1665 : (Jvm.Cond.interfaceEntry "BrushSellers" (202 : Nat)) ∈ lw_tbl := lw_at lw_m7 162 rfl
theorem q1666 : (Jvm.Cond.methodLink "BrushSellers" (202 : Nat) ({ cls := "java/util/Iterator", name := "hasNext", desc := "()Z" } : Jvm.MethodName)) ∈ lw_all := lw_g (lw_at lw_m7 163 rfl) rfl
theorem q1667 : (Jvm.Cond.interfaceEntry "BrushSellers" (208 : Nat)) ∈ lw_tbl := lw_at lw_m7 164 rfl
theorem q1668 : (Jvm.Cond.methodLink "BrushSellers" (208 : Nat) ({ cls := "java/util/Iterator", name := "next", desc := "()Ljava/lang/Object;" } : Jvm.MethodName)) ∈ lw_all := lw_g (lw_at lw_m7 165 rfl) rfl
theorem q1669 : (Jvm.Cond.classLink "BrushSellers" (211 : Nat) "BrushSellers$Order") ∈ lw_all := lw_g (lw_at lw_m7 166 rfl) rfl
theorem q1670 : (Jvm.Cond.methodLink "BrushSellers" (213 : Nat) ({ cls := "BrushSellers$Order", name := "isDone", desc := "(LBrushSellers$Company;)Z" } : Jvm.MethodName)) ∈ lw_all := lw_g (lw_at lw_m7 167 rfl) rfl
theorem q1700 : (Jvm.Cond.methodLink "BrushSellers" (217 : Nat) ({ cls := "BrushSellers", name := "refuse", desc := "(ZII)V" } : Jvm.MethodName)) ∈ lw_all := lw_g (lw_at lw_m7 197 rfl) rfl
theorem q1701 : (Jvm.Cond.methodLink "BrushSellers" (221 : Nat) ({ cls := "java/lang/StringBuilder", name := "setLength", desc := "(I)V" } : Jvm.MethodName)) ∈ lw_all := lw_g (lw_at lw_m7 198 rfl) rfl
theorem q1722 : (Jvm.Cond.instanceMethod ({ cls := "BrushSellers", name := "tell", desc := "(I)I" } : Jvm.MethodName)) ∈ lw_all := lw_g (lw_at lw_m7 219 rfl) rfl
theorem q1723 : (Jvm.Cond.selects "BrushSellers" ({ cls := "BrushSellers", name := "tell", desc := "(I)I" } : Jvm.MethodName) ({ cls := "BrushSellers", name := "tell", desc := "(I)I" } : Jvm.MethodName)) ∈ lw_all := lw_g (lw_at lw_m7 220 rfl) rfl
theorem q1724 : (Jvm.Cond.code ({ cls := "BrushSellers", name := "tell", desc := "(I)I" } : Jvm.MethodName) prog_1_method_30_code (2 : Nat) (Option.some Jvm.ClassFile.FieldType.int)) ∈ lw_all := lw_g (lw_at lw_m7 221 rfl) rfl
theorem q1725 : (Jvm.Cond.methodLink "BrushSellers" (230 : Nat) ({ cls := "BrushSellers$Seller", name := "text", desc := "()Ljava/lang/String;" } : Jvm.MethodName)) ∈ lw_all := lw_g (lw_at lw_m7 222 rfl) rfl
theorem q1763 : (Jvm.Cond.methodLink "BrushSellers" (233 : Nat) ({ cls := "java/lang/String", name := "length", desc := "()I" } : Jvm.MethodName)) ∈ lw_all := lw_g (lw_at lw_m8 20 rfl) rfl
theorem q1765 : (Jvm.Cond.instanceMethod ({ cls := "BrushSellers", name := "tellStreet", desc := "()I" } : Jvm.MethodName)) ∈ lw_all := lw_g (lw_at lw_m8 22 rfl) rfl
theorem q1766 : (Jvm.Cond.selects "BrushSellers" ({ cls := "BrushSellers", name := "tellStreet", desc := "()I" } : Jvm.MethodName) ({ cls := "BrushSellers", name := "tellStreet", desc := "()I" } : Jvm.MethodName)) ∈ lw_all := lw_g (lw_at lw_m8 23 rfl) rfl
theorem q1767 : (Jvm.Cond.code ({ cls := "BrushSellers", name := "tellStreet", desc := "()I" } : Jvm.MethodName) prog_1_method_31_code (1 : Nat) (Option.some Jvm.ClassFile.FieldType.int)) ∈ lw_all := lw_g (lw_at lw_m8 24 rfl) rfl
theorem q1768 : (Jvm.Cond.methodLink "BrushSellers" (236 : Nat) ({ cls := "BrushSellers$Company", name := "streetTold", desc := "()Ljava/lang/String;" } : Jvm.MethodName)) ∈ lw_all := lw_g (lw_at lw_m8 25 rfl) rfl
theorem q1790 : (Jvm.Cond.instanceMethod ({ cls := "BrushSellers", name := "character", desc := "(I)I" } : Jvm.MethodName)) ∈ lw_all := lw_g (lw_at lw_m8 47 rfl) rfl
theorem q1791 : (Jvm.Cond.selects "BrushSellers" ({ cls := "BrushSellers", name := "character", desc := "(I)I" } : Jvm.MethodName) ({ cls := "BrushSellers", name := "character", desc := "(I)I" } : Jvm.MethodName)) ∈ lw_all := lw_g (lw_at lw_m8 48 rfl) rfl
theorem q1792 : (Jvm.Cond.code ({ cls := "BrushSellers", name := "character", desc := "(I)I" } : Jvm.MethodName) prog_1_method_32_code (2 : Nat) (Option.some Jvm.ClassFile.FieldType.int)) ∈ lw_all := lw_g (lw_at lw_m8 49 rfl) rfl
theorem q1793 : (Jvm.Cond.methodLink "BrushSellers" (239 : Nat) ({ cls := "java/lang/String", name := "charAt", desc := "(I)C" } : Jvm.MethodName)) ∈ lw_all := lw_g (lw_at lw_m8 50 rfl) rfl
theorem q1795 : (Jvm.Cond.instanceMethod ({ cls := "BrushSellers", name := "reason", desc := "(Z)I" } : Jvm.MethodName)) ∈ lw_all := lw_g (lw_at lw_m8 52 rfl) rfl
theorem q1796 : (Jvm.Cond.selects "BrushSellers" ({ cls := "BrushSellers", name := "reason", desc := "(Z)I" } : Jvm.MethodName) ({ cls := "BrushSellers", name := "reason", desc := "(Z)I" } : Jvm.MethodName)) ∈ lw_all := lw_g (lw_at lw_m8 53 rfl) rfl
theorem q1797 : (Jvm.Cond.code ({ cls := "BrushSellers", name := "reason", desc := "(Z)I" } : Jvm.MethodName) prog_1_method_33_code (2 : Nat) (Option.some Jvm.ClassFile.FieldType.int)) ∈ lw_all := lw_g (lw_at lw_m8 54 rfl) rfl
theorem q1799 : (Jvm.Cond.instanceMethod ({ cls := "BrushSellers", name := "account", desc := "(I)I" } : Jvm.MethodName)) ∈ lw_all := lw_g (lw_at lw_m8 56 rfl) rfl
theorem q1800 : (Jvm.Cond.selects "BrushSellers" ({ cls := "BrushSellers", name := "account", desc := "(I)I" } : Jvm.MethodName) ({ cls := "BrushSellers", name := "account", desc := "(I)I" } : Jvm.MethodName)) ∈ lw_all := lw_g (lw_at lw_m8 57 rfl) rfl
theorem q1801 : (Jvm.Cond.code ({ cls := "BrushSellers", name := "account", desc := "(I)I" } : Jvm.MethodName) prog_1_method_34_code (2 : Nat) (Option.some Jvm.ClassFile.FieldType.int)) ∈ lw_all := lw_g (lw_at lw_m8 58 rfl) rfl
theorem q1802 : (Jvm.Cond.methodLink "BrushSellers" (249 : Nat) ({ cls := "java/util/ArrayList", name := "size", desc := "()I" } : Jvm.MethodName)) ∈ lw_all := lw_g (lw_at lw_m8 59 rfl) rfl
theorem q1803 : (Jvm.Cond.methodLink "BrushSellers" (250 : Nat) ({ cls := "BrushSellers$Company", name := "dogs", desc := "()I" } : Jvm.MethodName)) ∈ lw_all := lw_g (lw_at lw_m8 60 rfl) rfl
theorem q1804 : (Jvm.Cond.methodLink "BrushSellers" (253 : Nat) ({ cls := "BrushSellers$Company", name := "inDepot", desc := "()I" } : Jvm.MethodName)) ∈ lw_all := lw_g (lw_at lw_m8 61 rfl) rfl
theorem q1808 : (Jvm.Cond.methodLink "BrushSellers" (256 : Nat) ({ cls := "BrushSellers$Company", name := "inCases", desc := "()I" } : Jvm.MethodName)) ∈ lw_all := lw_g (lw_at lw_m8 65 rfl) rfl
theorem q1816 : (Jvm.Cond.methodLink "BrushSellers" (262 : Nat) ({ cls := "BrushSellers$Company", name := "sold", desc := "()I" } : Jvm.MethodName)) ∈ lw_all := lw_g (lw_at lw_m8 73 rfl) rfl
theorem q1820 : (Jvm.Cond.methodLink "BrushSellers" (265 : Nat) ({ cls := "BrushSellers$Company", name := "back", desc := "()I" } : Jvm.MethodName)) ∈ lw_all := lw_g (lw_at lw_m8 77 rfl) rfl
theorem q1824 : (Jvm.Cond.methodLink "BrushSellers" (283 : Nat) ({ cls := "java/util/LinkedList", name := "size", desc := "()I" } : Jvm.MethodName)) ∈ lw_all := lw_g (lw_at lw_m8 81 rfl) rfl
theorem q1826 : (Jvm.Cond.instanceMethod ({ cls := "BrushSellers", name := "isBalanced", desc := "()I" } : Jvm.MethodName)) ∈ lw_all := lw_g (lw_at lw_m8 83 rfl) rfl
theorem q1827 : (Jvm.Cond.selects "BrushSellers" ({ cls := "BrushSellers", name := "isBalanced", desc := "()I" } : Jvm.MethodName) ({ cls := "BrushSellers", name := "isBalanced", desc := "()I" } : Jvm.MethodName)) ∈ lw_all := lw_g (lw_at lw_m8 84 rfl) rfl
theorem q1828 : (Jvm.Cond.code ({ cls := "BrushSellers", name := "isBalanced", desc := "()I" } : Jvm.MethodName) prog_1_method_35_code (1 : Nat) (Option.some Jvm.ClassFile.FieldType.int)) ∈ lw_all := lw_g (lw_at lw_m8 85 rfl) rfl
theorem q1829 : (Jvm.Cond.methodLink "BrushSellers" (289 : Nat) ({ cls := "BrushSellers$Company", name := "isBalanced", desc := "()Z" } : Jvm.MethodName)) ∈ lw_all := lw_g (lw_at lw_m8 86 rfl) rfl
theorem q1838 : (Jvm.Cond.instanceMethod ({ cls := "BrushSellers", name := "meanTemper", desc := "()D" } : Jvm.MethodName)) ∈ lw_all := lw_g (lw_at lw_m8 95 rfl) rfl
theorem q1839 : (Jvm.Cond.selects "BrushSellers" ({ cls := "BrushSellers", name := "meanTemper", desc := "()D" } : Jvm.MethodName) ({ cls := "BrushSellers", name := "meanTemper", desc := "()D" } : Jvm.MethodName)) ∈ lw_all := lw_g (lw_at lw_m8 96 rfl) rfl
theorem q1840 : (Jvm.Cond.code ({ cls := "BrushSellers", name := "meanTemper", desc := "()D" } : Jvm.MethodName) prog_1_method_36_code (1 : Nat) (Option.some Jvm.ClassFile.FieldType.double)) ∈ lw_all := lw_g (lw_at lw_m8 97 rfl) rfl
theorem q1841 : (Jvm.Cond.methodLink "BrushSellers" (292 : Nat) ({ cls := "BrushSellers$Company", name := "tempers", desc := "()I" } : Jvm.MethodName)) ∈ lw_all := lw_g (lw_at lw_m8 98 rfl) rfl
theorem q1845 : (Jvm.Cond.constantDouble "BrushSellers" (295 : Nat) (4626322717216342016 : UInt64)) ∈ lw_all := lw_g (lw_at lw_m8 102 rfl) rfl
theorem q1847 : (Jvm.Cond.instanceMethod ({ cls := "BrushSellers", name := "backShare", desc := "()F" } : Jvm.MethodName)) ∈ lw_all := lw_g (lw_at lw_m8 104 rfl) rfl
theorem q1848 : (Jvm.Cond.selects "BrushSellers" ({ cls := "BrushSellers", name := "backShare", desc := "()F" } : Jvm.MethodName) ({ cls := "BrushSellers", name := "backShare", desc := "()F" } : Jvm.MethodName)) ∈ lw_all := lw_g (lw_at lw_m8 105 rfl) rfl
theorem q1849 : (Jvm.Cond.code ({ cls := "BrushSellers", name := "backShare", desc := "()F" } : Jvm.MethodName) prog_1_method_37_code (2 : Nat) (Option.some Jvm.ClassFile.FieldType.float)) ∈ lw_all := lw_g (lw_at lw_m8 106 rfl) rfl
theorem q1851 : (Jvm.Cond.instanceMethod ({ cls := "BrushSellers", name := "undo", desc := "()I" } : Jvm.MethodName)) ∈ lw_all := lw_g (lw_at lw_m8 108 rfl) rfl
theorem q1852 : (Jvm.Cond.selects "BrushSellers" ({ cls := "BrushSellers", name := "undo", desc := "()I" } : Jvm.MethodName) ({ cls := "BrushSellers", name := "undo", desc := "()I" } : Jvm.MethodName)) ∈ lw_all := lw_g (lw_at lw_m8 109 rfl) rfl
theorem q1853 : (Jvm.Cond.code ({ cls := "BrushSellers", name := "undo", desc := "()I" } : Jvm.MethodName) prog_1_method_38_code (1 : Nat) (Option.some Jvm.ClassFile.FieldType.int)) ∈ lw_all := lw_g (lw_at lw_m8 110 rfl) rfl
theorem q1854 : (Jvm.Cond.methodLink "BrushSellers" (297 : Nat) ({ cls := "java/util/ArrayDeque", name := "isEmpty", desc := "()Z" } : Jvm.MethodName)) ∈ lw_all := lw_g (lw_at lw_m8 111 rfl) rfl
theorem q1858 : (Jvm.Cond.methodLink "BrushSellers" (300 : Nat) ({ cls := "java/util/ArrayDeque", name := "removeLast", desc := "()Ljava/lang/Object;" } : Jvm.MethodName)) ∈ lw_all := lw_g (lw_at lw_m8 115 rfl) rfl
theorem q1870 : (Jvm.Cond.instanceMethod ({ cls := "BrushSellers", name := "save", desc := "()I" } : Jvm.MethodName)) ∈ lw_all := lw_g (lw_at lw_m8 127 rfl) rfl
theorem q1871 : (Jvm.Cond.selects "BrushSellers" ({ cls := "BrushSellers", name := "save", desc := "()I" } : Jvm.MethodName) ({ cls := "BrushSellers", name := "save", desc := "()I" } : Jvm.MethodName)) ∈ lw_all := lw_g (lw_at lw_m8 128 rfl) rfl
theorem q1872 : (Jvm.Cond.code ({ cls := "BrushSellers", name := "save", desc := "()I" } : Jvm.MethodName) prog_1_method_39_code (1 : Nat) (Option.some Jvm.ClassFile.FieldType.int)) ∈ lw_all := lw_g (lw_at lw_m8 129 rfl) rfl
theorem q1874 : (Jvm.Cond.instanceMethod ({ cls := "BrushSellers", name := "restore", desc := "()I" } : Jvm.MethodName)) ∈ lw_all := lw_g (lw_at lw_m8 131 rfl) rfl
theorem q1875 : (Jvm.Cond.selects "BrushSellers" ({ cls := "BrushSellers", name := "restore", desc := "()I" } : Jvm.MethodName) ({ cls := "BrushSellers", name := "restore", desc := "()I" } : Jvm.MethodName)) ∈ lw_all := lw_g (lw_at lw_m8 132 rfl) rfl
theorem q1876 : (Jvm.Cond.code ({ cls := "BrushSellers", name := "restore", desc := "()I" } : Jvm.MethodName) prog_1_method_40_code (1 : Nat) (Option.some Jvm.ClassFile.FieldType.int)) ∈ lw_all := lw_g (lw_at lw_m8 133 rfl) rfl
theorem q1877 : (Jvm.Cond.methodLink "BrushSellers" (306 : Nat) ({ cls := "java/util/ArrayDeque", name := "clear", desc := "()V" } : Jvm.MethodName)) ∈ lw_all := lw_g (lw_at lw_m8 134 rfl) rfl
theorem q2253 : (Jvm.Cond.castable "BrushSellers" "java/lang/Object") ∈ lw_tbl := lw_at lw_m10 30 rfl
theorem in_X0 : ∀ w ∈ wsX00, w ∈ lw_all := lw_in wsX00 [411, 413, 415, 417, 419, 421, 423] (by decide +kernel) (by decide +kernel)

/-! BrushSellers$Company -/
set_option maxRecDepth 100000
def RX1 : String := "BrushSellers$Company"
def TX1 : u_T := fun k => match k with
  | 0 => ("BrushSellers$Company", "houses", "Ljava/util/ArrayList;", true)
  | 1 => ("BrushSellers$Company", "sellers", "Ljava/util/ArrayList;", true)
  | 2 => ("BrushSellers$Company", "sales", "Ljava/util/LinkedList;", true)
  | 3 => ("BrushSellers$Company", "depot", "[I", true)
  | 4 => ("BrushSellers$Company", "day", "I", false)
  | 5 => ("BrushSellers$Company", "minutes", "I", false)
  | 6 => ("BrushSellers$Company", "coins", "I", false)
  | 7 => ("BrushSellers$Company", "got", "I", false)
  | 8 => ("BrushSellers$Company", "paidBack", "I", false)
  | 9 => ("BrushSellers$Company", "spent", "I", false)
  | 10 => ("BrushSellers$Company", "made", "I", false)
  | 11 => ("BrushSellers$Company", "thrown", "I", false)
  | 12 => ("BrushSellers$Company", "rings", "I", false)
  | _ => ("BrushSellers$Company", "bites", "I", false)
def tyX1 : Nat → FieldType := fun k => match k with
  | 0 => .object "java/util/ArrayList"
  | 1 => .object "java/util/ArrayList"
  | 2 => .object "java/util/LinkedList"
  | 3 => .array .int
  | 4 => .int
  | 5 => .int
  | 6 => .int
  | 7 => .int
  | 8 => .int
  | 9 => .int
  | 10 => .int
  | 11 => .int
  | 12 => .int
  | _ => .int
abbrev wsX10 : List Cond := u_ws RX1 TX1 14
set_option maxRecDepth 100000 in
theorem nmX1 : ∀ a, a < 14 → ∀ b, b < 14 → a ≠ b → (TX1 a).2.1 ≠ (TX1 b).2.1 := by decide +kernel
set_option maxRecDepth 100000 in
theorem tyX1_ok : ∀ k, k < 14 → parseFieldDescriptor (TX1 k).2.2.1 = some (tyX1 k) := by decide +kernel
abbrev cX1_init : ByteArray := prog_2_method_1_code
def yX1_init : MethodName := ⟨RX1, "<init>", "()V"⟩
def dkwX1_init_4 : List UInt8 := [27, 16, 40, 79, 42, 89, 180, 0, 45, 16, 40, 96, 181, 0, 45, 132, 1, 1, 167, 255, 229, 177]
abbrev dktX1_init_4 : List UInt8 := dkwX1_init_4 ++ []
def dkwX1_init_3 : List UInt8 := [183, 0, 40, 182, 0, 41, 87, 132, 1, 1, 167, 255, 231, 3, 60, 27, 6, 162, 0, 28, 42, 180, 0, 30]
abbrev dktX1_init_3 : List UInt8 := dkwX1_init_3 ++ dktX1_init_4
def dkwX1_init_2 : List UInt8 := [42, 16, 50, 181, 0, 34, 3, 60, 27, 16, 20, 162, 0, 25, 42, 180, 0, 14, 187, 0, 38, 89, 27]
abbrev dktX1_init_2 : List UInt8 := dkwX1_init_2 ++ dktX1_init_3
def dkwX1_init_1 : List UInt8 := [183, 0, 11, 181, 0, 20, 42, 187, 0, 23, 89, 183, 0, 25, 181, 0, 26, 42, 6, 188, 10, 181, 0, 30]
abbrev dktX1_init_1 : List UInt8 := dkwX1_init_1 ++ dktX1_init_2
def dkwX1_init_0 : List UInt8 := [42, 183, 0, 3, 42, 187, 0, 9, 89, 16, 20, 183, 0, 11, 181, 0, 14, 42, 187, 0, 9, 89, 7]
abbrev dktX1_init_0 : List UInt8 := dkwX1_init_0 ++ dktX1_init_1
theorem dksX1_init_0 : cX1_init.data.toList.drop 0 = dktX1_init_0 := by decide +kernel
theorem dksX1_init_1 : cX1_init.data.toList.drop 23 = dktX1_init_1 := dk_seg dksX1_init_0 23 rfl rfl
theorem dksX1_init_2 : cX1_init.data.toList.drop 47 = dktX1_init_2 := dk_seg dksX1_init_1 24 rfl rfl
theorem dksX1_init_3 : cX1_init.data.toList.drop 70 = dktX1_init_3 := dk_seg dksX1_init_2 23 rfl rfl
theorem dksX1_init_4 : cX1_init.data.toList.drop 94 = dktX1_init_4 := dk_seg dksX1_init_3 24 rfl rfl
theorem dX1_init_0 : decode cX1_init 0 = .ok (.aload_n 0, 1) := dk_42 (dk_at dksX1_init_0 0 rfl rfl)
theorem dX1_init_1 : decode cX1_init 1 = .ok (.invokespecial 3, 3) := dk_183 0 3 (dk_at dksX1_init_0 1 rfl rfl)
theorem dX1_init_4 : decode cX1_init 4 = .ok (.aload_n 0, 1) := dk_42 (dk_at dksX1_init_0 4 rfl rfl)
theorem dX1_init_5 : decode cX1_init 5 = .ok (.new 9, 3) := dk_187 0 9 (dk_at dksX1_init_0 5 rfl rfl)
theorem dX1_init_8 : decode cX1_init 8 = .ok (.dup, 1) := dk_89 (dk_at dksX1_init_0 8 rfl rfl)
theorem dX1_init_9 : decode cX1_init 9 = .ok (.bipush 20, 2) := dk_16 20 (dk_at dksX1_init_0 9 rfl rfl)
theorem dX1_init_11 : decode cX1_init 11 = .ok (.invokespecial 11, 3) := dk_183 0 11 (dk_at dksX1_init_0 11 rfl rfl)
theorem dX1_init_14 : decode cX1_init 14 = .ok (.putfield 14, 3) := dk_181 0 14 (dk_at dksX1_init_0 14 rfl rfl)
theorem dX1_init_17 : decode cX1_init 17 = .ok (.aload_n 0, 1) := dk_42 (dk_at dksX1_init_0 17 rfl rfl)
theorem dX1_init_18 : decode cX1_init 18 = .ok (.new 9, 3) := dk_187 0 9 (dk_at dksX1_init_0 18 rfl rfl)
theorem dX1_init_21 : decode cX1_init 21 = .ok (.dup, 1) := dk_89 (dk_at dksX1_init_0 21 rfl rfl)
theorem dX1_init_22 : decode cX1_init 22 = .ok (.iconst 4, 1) := dk_7 (dk_at dksX1_init_0 22 rfl rfl)
theorem dX1_init_23 : decode cX1_init 23 = .ok (.invokespecial 11, 3) := dk_183 0 11 (dk_at dksX1_init_1 0 rfl rfl)
theorem dX1_init_26 : decode cX1_init 26 = .ok (.putfield 20, 3) := dk_181 0 20 (dk_at dksX1_init_1 3 rfl rfl)
theorem dX1_init_29 : decode cX1_init 29 = .ok (.aload_n 0, 1) := dk_42 (dk_at dksX1_init_1 6 rfl rfl)
theorem dX1_init_30 : decode cX1_init 30 = .ok (.new 23, 3) := dk_187 0 23 (dk_at dksX1_init_1 7 rfl rfl)
theorem dX1_init_33 : decode cX1_init 33 = .ok (.dup, 1) := dk_89 (dk_at dksX1_init_1 10 rfl rfl)
theorem dX1_init_34 : decode cX1_init 34 = .ok (.invokespecial 25, 3) := dk_183 0 25 (dk_at dksX1_init_1 11 rfl rfl)
theorem dX1_init_37 : decode cX1_init 37 = .ok (.putfield 26, 3) := dk_181 0 26 (dk_at dksX1_init_1 14 rfl rfl)
theorem dX1_init_40 : decode cX1_init 40 = .ok (.aload_n 0, 1) := dk_42 (dk_at dksX1_init_1 17 rfl rfl)
theorem dX1_init_41 : decode cX1_init 41 = .ok (.iconst 3, 1) := dk_6 (dk_at dksX1_init_1 18 rfl rfl)
theorem dX1_init_42 : decode cX1_init 42 = .ok (.newarray .int, 2) := dk_188_10 (dk_at dksX1_init_1 19 rfl rfl)
theorem dX1_init_44 : decode cX1_init 44 = .ok (.putfield 30, 3) := dk_181 0 30 (dk_at dksX1_init_1 21 rfl rfl)
theorem dX1_init_47 : decode cX1_init 47 = .ok (.aload_n 0, 1) := dk_42 (dk_at dksX1_init_2 0 rfl rfl)
theorem dX1_init_48 : decode cX1_init 48 = .ok (.bipush 50, 2) := dk_16 50 (dk_at dksX1_init_2 1 rfl rfl)
theorem dX1_init_50 : decode cX1_init 50 = .ok (.putfield 34, 3) := dk_181 0 34 (dk_at dksX1_init_2 3 rfl rfl)
theorem dX1_init_53 : decode cX1_init 53 = .ok (.iconst 0, 1) := dk_3 (dk_at dksX1_init_2 6 rfl rfl)
theorem dX1_init_54 : decode cX1_init 54 = .ok (.istore_n 1, 1) := dk_60 (dk_at dksX1_init_2 7 rfl rfl)
theorem dX1_init_55 : decode cX1_init 55 = .ok (.iload_n 1, 1) := dk_27 (dk_at dksX1_init_2 8 rfl rfl)
theorem dX1_init_56 : decode cX1_init 56 = .ok (.bipush 20, 2) := dk_16 20 (dk_at dksX1_init_2 9 rfl rfl)
theorem dX1_init_58 : decode cX1_init 58 = .ok (.if_icmp .ge 25, 3) := dk_162 0 25 (dk_at dksX1_init_2 11 rfl rfl)
theorem dX1_init_61 : decode cX1_init 61 = .ok (.aload_n 0, 1) := dk_42 (dk_at dksX1_init_2 14 rfl rfl)
theorem dX1_init_62 : decode cX1_init 62 = .ok (.getfield 14, 3) := dk_180 0 14 (dk_at dksX1_init_2 15 rfl rfl)
theorem dX1_init_65 : decode cX1_init 65 = .ok (.new 38, 3) := dk_187 0 38 (dk_at dksX1_init_2 18 rfl rfl)
theorem dX1_init_68 : decode cX1_init 68 = .ok (.dup, 1) := dk_89 (dk_at dksX1_init_2 21 rfl rfl)
theorem dX1_init_69 : decode cX1_init 69 = .ok (.iload_n 1, 1) := dk_27 (dk_at dksX1_init_2 22 rfl rfl)
theorem dX1_init_70 : decode cX1_init 70 = .ok (.invokespecial 40, 3) := dk_183 0 40 (dk_at dksX1_init_3 0 rfl rfl)
theorem dX1_init_73 : decode cX1_init 73 = .ok (.invokevirtual 41, 3) := dk_182 0 41 (dk_at dksX1_init_3 3 rfl rfl)
theorem dX1_init_76 : decode cX1_init 76 = .ok (.pop, 1) := dk_87 (dk_at dksX1_init_3 6 rfl rfl)
theorem dX1_init_77 : decode cX1_init 77 = .ok (.iinc 1 1, 3) := dk_132 1 1 (dk_at dksX1_init_3 7 rfl rfl)
theorem dX1_init_80 : decode cX1_init 80 = .ok (.goto (-25), 3) := dk_167 255 231 (dk_at dksX1_init_3 10 rfl rfl)
theorem dX1_init_83 : decode cX1_init 83 = .ok (.iconst 0, 1) := dk_3 (dk_at dksX1_init_3 13 rfl rfl)
theorem dX1_init_84 : decode cX1_init 84 = .ok (.istore_n 1, 1) := dk_60 (dk_at dksX1_init_3 14 rfl rfl)
theorem dX1_init_85 : decode cX1_init 85 = .ok (.iload_n 1, 1) := dk_27 (dk_at dksX1_init_3 15 rfl rfl)
theorem dX1_init_86 : decode cX1_init 86 = .ok (.iconst 3, 1) := dk_6 (dk_at dksX1_init_3 16 rfl rfl)
theorem dX1_init_87 : decode cX1_init 87 = .ok (.if_icmp .ge 28, 3) := dk_162 0 28 (dk_at dksX1_init_3 17 rfl rfl)
theorem dX1_init_90 : decode cX1_init 90 = .ok (.aload_n 0, 1) := dk_42 (dk_at dksX1_init_3 20 rfl rfl)
theorem dX1_init_91 : decode cX1_init 91 = .ok (.getfield 30, 3) := dk_180 0 30 (dk_at dksX1_init_3 21 rfl rfl)
theorem dX1_init_94 : decode cX1_init 94 = .ok (.iload_n 1, 1) := dk_27 (dk_at dksX1_init_4 0 rfl rfl)
theorem dX1_init_95 : decode cX1_init 95 = .ok (.bipush 40, 2) := dk_16 40 (dk_at dksX1_init_4 1 rfl rfl)
theorem dX1_init_97 : decode cX1_init 97 = .ok (.iastore, 1) := dk_79 (dk_at dksX1_init_4 3 rfl rfl)
theorem dX1_init_98 : decode cX1_init 98 = .ok (.aload_n 0, 1) := dk_42 (dk_at dksX1_init_4 4 rfl rfl)
theorem dX1_init_99 : decode cX1_init 99 = .ok (.dup, 1) := dk_89 (dk_at dksX1_init_4 5 rfl rfl)
theorem dX1_init_100 : decode cX1_init 100 = .ok (.getfield 45, 3) := dk_180 0 45 (dk_at dksX1_init_4 6 rfl rfl)
theorem dX1_init_103 : decode cX1_init 103 = .ok (.bipush 40, 2) := dk_16 40 (dk_at dksX1_init_4 9 rfl rfl)
theorem dX1_init_105 : decode cX1_init 105 = .ok (.iadd, 1) := dk_96 (dk_at dksX1_init_4 11 rfl rfl)
theorem dX1_init_106 : decode cX1_init 106 = .ok (.putfield 45, 3) := dk_181 0 45 (dk_at dksX1_init_4 12 rfl rfl)
theorem dX1_init_109 : decode cX1_init 109 = .ok (.iinc 1 1, 3) := dk_132 1 1 (dk_at dksX1_init_4 15 rfl rfl)
theorem dX1_init_112 : decode cX1_init 112 = .ok (.goto (-27), 3) := dk_167 255 229 (dk_at dksX1_init_4 18 rfl rfl)
theorem dX1_init_115 : decode cX1_init 115 = .ok (.return_, 1) := dk_177 (dk_at dksX1_init_4 21 rfl rfl)
abbrev cX1_copy : ByteArray := prog_2_method_2_code
def yX1_copy : MethodName := ⟨RX1, "copy", "()LBrushSellers$Company;"⟩
def dkwX1_copy_6 : List UInt8 := [180, 0, 30, 3, 6, 184, 0, 90, 43, 42, 182, 0, 96, 43, 176]
abbrev dktX1_copy_6 : List UInt8 := dkwX1_copy_6 ++ []
def dkwX1_copy_5 : List UInt8 := [192, 0, 81, 78, 43, 180, 0, 26, 45, 182, 0, 83, 182, 0, 86, 167, 255, 226, 42, 180, 0, 30, 3, 43]
abbrev dktX1_copy_5 : List UInt8 := dkwX1_copy_5 ++ dktX1_copy_6
def dkwX1_copy_4 : List UInt8 := [42, 180, 0, 26, 182, 0, 80, 77, 44, 185, 0, 65, 1, 0, 153, 0, 27, 44, 185, 0, 71, 1, 0]
abbrev dktX1_copy_4 : List UInt8 := dkwX1_copy_4 ++ dktX1_copy_5
def dkwX1_copy_3 : List UInt8 := [185, 0, 71, 1, 0, 192, 0, 75, 78, 43, 180, 0, 20, 45, 182, 0, 77, 182, 0, 41, 87, 167, 255, 225]
abbrev dktX1_copy_3 : List UInt8 := dkwX1_copy_3 ++ dktX1_copy_4
def dkwX1_copy_2 : List UInt8 := [167, 255, 221, 42, 180, 0, 20, 182, 0, 61, 77, 44, 185, 0, 65, 1, 0, 153, 0, 28, 44]
abbrev dktX1_copy_2 : List UInt8 := dkwX1_copy_2 ++ dktX1_copy_3
def dkwX1_copy_1 : List UInt8 := [180, 0, 14, 28, 182, 0, 49, 192, 0, 38, 182, 0, 53, 182, 0, 57, 192, 0, 38, 78, 132, 2, 1]
abbrev dktX1_copy_1 : List UInt8 := dkwX1_copy_1 ++ dktX1_copy_2
def dkwX1_copy_0 : List UInt8 := [187, 0, 15, 89, 183, 0, 48, 76, 3, 61, 28, 16, 20, 162, 0, 35, 43, 180, 0, 14, 28, 42]
abbrev dktX1_copy_0 : List UInt8 := dkwX1_copy_0 ++ dktX1_copy_1
theorem dksX1_copy_0 : cX1_copy.data.toList.drop 0 = dktX1_copy_0 := by decide +kernel
theorem dksX1_copy_1 : cX1_copy.data.toList.drop 22 = dktX1_copy_1 := dk_seg dksX1_copy_0 22 rfl rfl
theorem dksX1_copy_2 : cX1_copy.data.toList.drop 45 = dktX1_copy_2 := dk_seg dksX1_copy_1 23 rfl rfl
theorem dksX1_copy_3 : cX1_copy.data.toList.drop 66 = dktX1_copy_3 := dk_seg dksX1_copy_2 21 rfl rfl
theorem dksX1_copy_4 : cX1_copy.data.toList.drop 90 = dktX1_copy_4 := dk_seg dksX1_copy_3 24 rfl rfl
theorem dksX1_copy_5 : cX1_copy.data.toList.drop 113 = dktX1_copy_5 := dk_seg dksX1_copy_4 23 rfl rfl
theorem dksX1_copy_6 : cX1_copy.data.toList.drop 137 = dktX1_copy_6 := dk_seg dksX1_copy_5 24 rfl rfl
theorem dX1_copy_0 : decode cX1_copy 0 = .ok (.new 15, 3) := dk_187 0 15 (dk_at dksX1_copy_0 0 rfl rfl)
theorem dX1_copy_3 : decode cX1_copy 3 = .ok (.dup, 1) := dk_89 (dk_at dksX1_copy_0 3 rfl rfl)
theorem dX1_copy_4 : decode cX1_copy 4 = .ok (.invokespecial 48, 3) := dk_183 0 48 (dk_at dksX1_copy_0 4 rfl rfl)
theorem dX1_copy_7 : decode cX1_copy 7 = .ok (.astore_n 1, 1) := dk_76 (dk_at dksX1_copy_0 7 rfl rfl)
theorem dX1_copy_8 : decode cX1_copy 8 = .ok (.iconst 0, 1) := dk_3 (dk_at dksX1_copy_0 8 rfl rfl)
theorem dX1_copy_9 : decode cX1_copy 9 = .ok (.istore_n 2, 1) := dk_61 (dk_at dksX1_copy_0 9 rfl rfl)
theorem dX1_copy_10 : decode cX1_copy 10 = .ok (.iload_n 2, 1) := dk_28 (dk_at dksX1_copy_0 10 rfl rfl)
theorem dX1_copy_11 : decode cX1_copy 11 = .ok (.bipush 20, 2) := dk_16 20 (dk_at dksX1_copy_0 11 rfl rfl)
theorem dX1_copy_13 : decode cX1_copy 13 = .ok (.if_icmp .ge 35, 3) := dk_162 0 35 (dk_at dksX1_copy_0 13 rfl rfl)
theorem dX1_copy_16 : decode cX1_copy 16 = .ok (.aload_n 1, 1) := dk_43 (dk_at dksX1_copy_0 16 rfl rfl)
theorem dX1_copy_17 : decode cX1_copy 17 = .ok (.getfield 14, 3) := dk_180 0 14 (dk_at dksX1_copy_0 17 rfl rfl)
theorem dX1_copy_20 : decode cX1_copy 20 = .ok (.iload_n 2, 1) := dk_28 (dk_at dksX1_copy_0 20 rfl rfl)
theorem dX1_copy_21 : decode cX1_copy 21 = .ok (.aload_n 0, 1) := dk_42 (dk_at dksX1_copy_0 21 rfl rfl)
theorem dX1_copy_22 : decode cX1_copy 22 = .ok (.getfield 14, 3) := dk_180 0 14 (dk_at dksX1_copy_1 0 rfl rfl)
theorem dX1_copy_25 : decode cX1_copy 25 = .ok (.iload_n 2, 1) := dk_28 (dk_at dksX1_copy_1 3 rfl rfl)
theorem dX1_copy_26 : decode cX1_copy 26 = .ok (.invokevirtual 49, 3) := dk_182 0 49 (dk_at dksX1_copy_1 4 rfl rfl)
theorem dX1_copy_29 : decode cX1_copy 29 = .ok (.checkcast 38, 3) := dk_192 0 38 (dk_at dksX1_copy_1 7 rfl rfl)
theorem dX1_copy_32 : decode cX1_copy 32 = .ok (.invokevirtual 53, 3) := dk_182 0 53 (dk_at dksX1_copy_1 10 rfl rfl)
theorem dX1_copy_35 : decode cX1_copy 35 = .ok (.invokevirtual 57, 3) := dk_182 0 57 (dk_at dksX1_copy_1 13 rfl rfl)
theorem dX1_copy_38 : decode cX1_copy 38 = .ok (.checkcast 38, 3) := dk_192 0 38 (dk_at dksX1_copy_1 16 rfl rfl)
theorem dX1_copy_41 : decode cX1_copy 41 = .ok (.astore_n 3, 1) := dk_78 (dk_at dksX1_copy_1 19 rfl rfl)
theorem dX1_copy_42 : decode cX1_copy 42 = .ok (.iinc 2 1, 3) := dk_132 2 1 (dk_at dksX1_copy_1 20 rfl rfl)
theorem dX1_copy_45 : decode cX1_copy 45 = .ok (.goto (-35), 3) := dk_167 255 221 (dk_at dksX1_copy_2 0 rfl rfl)
theorem dX1_copy_48 : decode cX1_copy 48 = .ok (.aload_n 0, 1) := dk_42 (dk_at dksX1_copy_2 3 rfl rfl)
theorem dX1_copy_49 : decode cX1_copy 49 = .ok (.getfield 20, 3) := dk_180 0 20 (dk_at dksX1_copy_2 4 rfl rfl)
theorem dX1_copy_52 : decode cX1_copy 52 = .ok (.invokevirtual 61, 3) := dk_182 0 61 (dk_at dksX1_copy_2 7 rfl rfl)
theorem dX1_copy_55 : decode cX1_copy 55 = .ok (.astore_n 2, 1) := dk_77 (dk_at dksX1_copy_2 10 rfl rfl)
theorem dX1_copy_56 : decode cX1_copy 56 = .ok (.aload_n 2, 1) := dk_44 (dk_at dksX1_copy_2 11 rfl rfl)
theorem dX1_copy_57 : decode cX1_copy 57 = .ok (.invokeinterface 65 1, 5) := by decide +kernel
theorem dX1_copy_62 : decode cX1_copy 62 = .ok (.ifCond .eq 28, 3) := dk_153 0 28 (dk_at dksX1_copy_2 17 rfl rfl)
theorem dX1_copy_65 : decode cX1_copy 65 = .ok (.aload_n 2, 1) := dk_44 (dk_at dksX1_copy_2 20 rfl rfl)
theorem dX1_copy_66 : decode cX1_copy 66 = .ok (.invokeinterface 71 1, 5) := by decide +kernel
theorem dX1_copy_71 : decode cX1_copy 71 = .ok (.checkcast 75, 3) := dk_192 0 75 (dk_at dksX1_copy_3 5 rfl rfl)
theorem dX1_copy_74 : decode cX1_copy 74 = .ok (.astore_n 3, 1) := dk_78 (dk_at dksX1_copy_3 8 rfl rfl)
theorem dX1_copy_75 : decode cX1_copy 75 = .ok (.aload_n 1, 1) := dk_43 (dk_at dksX1_copy_3 9 rfl rfl)
theorem dX1_copy_76 : decode cX1_copy 76 = .ok (.getfield 20, 3) := dk_180 0 20 (dk_at dksX1_copy_3 10 rfl rfl)
theorem dX1_copy_79 : decode cX1_copy 79 = .ok (.aload_n 3, 1) := dk_45 (dk_at dksX1_copy_3 13 rfl rfl)
theorem dX1_copy_80 : decode cX1_copy 80 = .ok (.invokevirtual 77, 3) := dk_182 0 77 (dk_at dksX1_copy_3 14 rfl rfl)
theorem dX1_copy_83 : decode cX1_copy 83 = .ok (.invokevirtual 41, 3) := dk_182 0 41 (dk_at dksX1_copy_3 17 rfl rfl)
theorem dX1_copy_86 : decode cX1_copy 86 = .ok (.pop, 1) := dk_87 (dk_at dksX1_copy_3 20 rfl rfl)
theorem dX1_copy_87 : decode cX1_copy 87 = .ok (.goto (-31), 3) := dk_167 255 225 (dk_at dksX1_copy_3 21 rfl rfl)
theorem dX1_copy_90 : decode cX1_copy 90 = .ok (.aload_n 0, 1) := dk_42 (dk_at dksX1_copy_4 0 rfl rfl)
theorem dX1_copy_91 : decode cX1_copy 91 = .ok (.getfield 26, 3) := dk_180 0 26 (dk_at dksX1_copy_4 1 rfl rfl)
theorem dX1_copy_94 : decode cX1_copy 94 = .ok (.invokevirtual 80, 3) := dk_182 0 80 (dk_at dksX1_copy_4 4 rfl rfl)
theorem dX1_copy_97 : decode cX1_copy 97 = .ok (.astore_n 2, 1) := dk_77 (dk_at dksX1_copy_4 7 rfl rfl)
theorem dX1_copy_98 : decode cX1_copy 98 = .ok (.aload_n 2, 1) := dk_44 (dk_at dksX1_copy_4 8 rfl rfl)
theorem dX1_copy_99 : decode cX1_copy 99 = .ok (.invokeinterface 65 1, 5) := by decide +kernel
theorem dX1_copy_104 : decode cX1_copy 104 = .ok (.ifCond .eq 27, 3) := dk_153 0 27 (dk_at dksX1_copy_4 14 rfl rfl)
theorem dX1_copy_107 : decode cX1_copy 107 = .ok (.aload_n 2, 1) := dk_44 (dk_at dksX1_copy_4 17 rfl rfl)
theorem dX1_copy_108 : decode cX1_copy 108 = .ok (.invokeinterface 71 1, 5) := by decide +kernel
theorem dX1_copy_113 : decode cX1_copy 113 = .ok (.checkcast 81, 3) := dk_192 0 81 (dk_at dksX1_copy_5 0 rfl rfl)
theorem dX1_copy_116 : decode cX1_copy 116 = .ok (.astore_n 3, 1) := dk_78 (dk_at dksX1_copy_5 3 rfl rfl)
theorem dX1_copy_117 : decode cX1_copy 117 = .ok (.aload_n 1, 1) := dk_43 (dk_at dksX1_copy_5 4 rfl rfl)
theorem dX1_copy_118 : decode cX1_copy 118 = .ok (.getfield 26, 3) := dk_180 0 26 (dk_at dksX1_copy_5 5 rfl rfl)
theorem dX1_copy_121 : decode cX1_copy 121 = .ok (.aload_n 3, 1) := dk_45 (dk_at dksX1_copy_5 8 rfl rfl)
theorem dX1_copy_122 : decode cX1_copy 122 = .ok (.invokevirtual 83, 3) := dk_182 0 83 (dk_at dksX1_copy_5 9 rfl rfl)
theorem dX1_copy_125 : decode cX1_copy 125 = .ok (.invokevirtual 86, 3) := dk_182 0 86 (dk_at dksX1_copy_5 12 rfl rfl)
theorem dX1_copy_128 : decode cX1_copy 128 = .ok (.goto (-30), 3) := dk_167 255 226 (dk_at dksX1_copy_5 15 rfl rfl)
theorem dX1_copy_131 : decode cX1_copy 131 = .ok (.aload_n 0, 1) := dk_42 (dk_at dksX1_copy_5 18 rfl rfl)
theorem dX1_copy_132 : decode cX1_copy 132 = .ok (.getfield 30, 3) := dk_180 0 30 (dk_at dksX1_copy_5 19 rfl rfl)
theorem dX1_copy_135 : decode cX1_copy 135 = .ok (.iconst 0, 1) := dk_3 (dk_at dksX1_copy_5 22 rfl rfl)
theorem dX1_copy_136 : decode cX1_copy 136 = .ok (.aload_n 1, 1) := dk_43 (dk_at dksX1_copy_5 23 rfl rfl)
theorem dX1_copy_137 : decode cX1_copy 137 = .ok (.getfield 30, 3) := dk_180 0 30 (dk_at dksX1_copy_6 0 rfl rfl)
theorem dX1_copy_140 : decode cX1_copy 140 = .ok (.iconst 0, 1) := dk_3 (dk_at dksX1_copy_6 3 rfl rfl)
theorem dX1_copy_141 : decode cX1_copy 141 = .ok (.iconst 3, 1) := dk_6 (dk_at dksX1_copy_6 4 rfl rfl)
theorem dX1_copy_142 : decode cX1_copy 142 = .ok (.invokestatic 90, 3) := dk_184 0 90 (dk_at dksX1_copy_6 5 rfl rfl)
theorem dX1_copy_145 : decode cX1_copy 145 = .ok (.aload_n 1, 1) := dk_43 (dk_at dksX1_copy_6 8 rfl rfl)
theorem dX1_copy_146 : decode cX1_copy 146 = .ok (.aload_n 0, 1) := dk_42 (dk_at dksX1_copy_6 9 rfl rfl)
theorem dX1_copy_147 : decode cX1_copy 147 = .ok (.invokevirtual 96, 3) := dk_182 0 96 (dk_at dksX1_copy_6 10 rfl rfl)
theorem dX1_copy_150 : decode cX1_copy 150 = .ok (.aload_n 1, 1) := dk_43 (dk_at dksX1_copy_6 13 rfl rfl)
theorem dX1_copy_151 : decode cX1_copy 151 = .ok (.areturn, 1) := dk_176 (dk_at dksX1_copy_6 14 rfl rfl)
abbrev cX1_takesNumbers : ByteArray := prog_2_method_3_code
def yX1_takesNumbers : MethodName := ⟨RX1, "takesNumbers", "(LBrushSellers$Company;)V"⟩
def dkwX1_takesNumbers_3 : List UInt8 := [42, 43, 180, 0, 121, 181, 0, 121, 177]
abbrev dktX1_takesNumbers_3 : List UInt8 := dkwX1_takesNumbers_3 ++ []
def dkwX1_takesNumbers_2 : List UInt8 := [42, 43, 180, 0, 45, 181, 0, 45, 42, 43, 180, 0, 115, 181, 0, 115, 42, 43, 180, 0, 118, 181, 0, 118]
abbrev dktX1_takesNumbers_2 : List UInt8 := dkwX1_takesNumbers_2 ++ dktX1_takesNumbers_3
def dkwX1_takesNumbers_1 : List UInt8 := [42, 43, 180, 0, 106, 181, 0, 106, 42, 43, 180, 0, 109, 181, 0, 109, 42, 43, 180, 0, 112, 181, 0, 112]
abbrev dktX1_takesNumbers_1 : List UInt8 := dkwX1_takesNumbers_1 ++ dktX1_takesNumbers_2
def dkwX1_takesNumbers_0 : List UInt8 := [42, 43, 180, 0, 100, 181, 0, 100, 42, 43, 180, 0, 103, 181, 0, 103, 42, 43, 180, 0, 34, 181, 0, 34]
abbrev dktX1_takesNumbers_0 : List UInt8 := dkwX1_takesNumbers_0 ++ dktX1_takesNumbers_1
theorem dksX1_takesNumbers_0 : cX1_takesNumbers.data.toList.drop 0 = dktX1_takesNumbers_0 := by decide +kernel
theorem dksX1_takesNumbers_1 : cX1_takesNumbers.data.toList.drop 24 = dktX1_takesNumbers_1 := dk_seg dksX1_takesNumbers_0 24 rfl rfl
theorem dksX1_takesNumbers_2 : cX1_takesNumbers.data.toList.drop 48 = dktX1_takesNumbers_2 := dk_seg dksX1_takesNumbers_1 24 rfl rfl
theorem dksX1_takesNumbers_3 : cX1_takesNumbers.data.toList.drop 72 = dktX1_takesNumbers_3 := dk_seg dksX1_takesNumbers_2 24 rfl rfl
theorem dX1_takesNumbers_0 : decode cX1_takesNumbers 0 = .ok (.aload_n 0, 1) := dk_42 (dk_at dksX1_takesNumbers_0 0 rfl rfl)
theorem dX1_takesNumbers_1 : decode cX1_takesNumbers 1 = .ok (.aload_n 1, 1) := dk_43 (dk_at dksX1_takesNumbers_0 1 rfl rfl)
theorem dX1_takesNumbers_2 : decode cX1_takesNumbers 2 = .ok (.getfield 100, 3) := dk_180 0 100 (dk_at dksX1_takesNumbers_0 2 rfl rfl)
theorem dX1_takesNumbers_5 : decode cX1_takesNumbers 5 = .ok (.putfield 100, 3) := dk_181 0 100 (dk_at dksX1_takesNumbers_0 5 rfl rfl)
theorem dX1_takesNumbers_8 : decode cX1_takesNumbers 8 = .ok (.aload_n 0, 1) := dk_42 (dk_at dksX1_takesNumbers_0 8 rfl rfl)
theorem dX1_takesNumbers_9 : decode cX1_takesNumbers 9 = .ok (.aload_n 1, 1) := dk_43 (dk_at dksX1_takesNumbers_0 9 rfl rfl)
theorem dX1_takesNumbers_10 : decode cX1_takesNumbers 10 = .ok (.getfield 103, 3) := dk_180 0 103 (dk_at dksX1_takesNumbers_0 10 rfl rfl)
theorem dX1_takesNumbers_13 : decode cX1_takesNumbers 13 = .ok (.putfield 103, 3) := dk_181 0 103 (dk_at dksX1_takesNumbers_0 13 rfl rfl)
theorem dX1_takesNumbers_16 : decode cX1_takesNumbers 16 = .ok (.aload_n 0, 1) := dk_42 (dk_at dksX1_takesNumbers_0 16 rfl rfl)
theorem dX1_takesNumbers_17 : decode cX1_takesNumbers 17 = .ok (.aload_n 1, 1) := dk_43 (dk_at dksX1_takesNumbers_0 17 rfl rfl)
theorem dX1_takesNumbers_18 : decode cX1_takesNumbers 18 = .ok (.getfield 34, 3) := dk_180 0 34 (dk_at dksX1_takesNumbers_0 18 rfl rfl)
theorem dX1_takesNumbers_21 : decode cX1_takesNumbers 21 = .ok (.putfield 34, 3) := dk_181 0 34 (dk_at dksX1_takesNumbers_0 21 rfl rfl)
theorem dX1_takesNumbers_24 : decode cX1_takesNumbers 24 = .ok (.aload_n 0, 1) := dk_42 (dk_at dksX1_takesNumbers_1 0 rfl rfl)
theorem dX1_takesNumbers_25 : decode cX1_takesNumbers 25 = .ok (.aload_n 1, 1) := dk_43 (dk_at dksX1_takesNumbers_1 1 rfl rfl)
theorem dX1_takesNumbers_26 : decode cX1_takesNumbers 26 = .ok (.getfield 106, 3) := dk_180 0 106 (dk_at dksX1_takesNumbers_1 2 rfl rfl)
theorem dX1_takesNumbers_29 : decode cX1_takesNumbers 29 = .ok (.putfield 106, 3) := dk_181 0 106 (dk_at dksX1_takesNumbers_1 5 rfl rfl)
theorem dX1_takesNumbers_32 : decode cX1_takesNumbers 32 = .ok (.aload_n 0, 1) := dk_42 (dk_at dksX1_takesNumbers_1 8 rfl rfl)
theorem dX1_takesNumbers_33 : decode cX1_takesNumbers 33 = .ok (.aload_n 1, 1) := dk_43 (dk_at dksX1_takesNumbers_1 9 rfl rfl)
theorem dX1_takesNumbers_34 : decode cX1_takesNumbers 34 = .ok (.getfield 109, 3) := dk_180 0 109 (dk_at dksX1_takesNumbers_1 10 rfl rfl)
theorem dX1_takesNumbers_37 : decode cX1_takesNumbers 37 = .ok (.putfield 109, 3) := dk_181 0 109 (dk_at dksX1_takesNumbers_1 13 rfl rfl)
theorem dX1_takesNumbers_40 : decode cX1_takesNumbers 40 = .ok (.aload_n 0, 1) := dk_42 (dk_at dksX1_takesNumbers_1 16 rfl rfl)
theorem dX1_takesNumbers_41 : decode cX1_takesNumbers 41 = .ok (.aload_n 1, 1) := dk_43 (dk_at dksX1_takesNumbers_1 17 rfl rfl)
theorem dX1_takesNumbers_42 : decode cX1_takesNumbers 42 = .ok (.getfield 112, 3) := dk_180 0 112 (dk_at dksX1_takesNumbers_1 18 rfl rfl)
theorem dX1_takesNumbers_45 : decode cX1_takesNumbers 45 = .ok (.putfield 112, 3) := dk_181 0 112 (dk_at dksX1_takesNumbers_1 21 rfl rfl)
theorem dX1_takesNumbers_48 : decode cX1_takesNumbers 48 = .ok (.aload_n 0, 1) := dk_42 (dk_at dksX1_takesNumbers_2 0 rfl rfl)
theorem dX1_takesNumbers_49 : decode cX1_takesNumbers 49 = .ok (.aload_n 1, 1) := dk_43 (dk_at dksX1_takesNumbers_2 1 rfl rfl)
theorem dX1_takesNumbers_50 : decode cX1_takesNumbers 50 = .ok (.getfield 45, 3) := dk_180 0 45 (dk_at dksX1_takesNumbers_2 2 rfl rfl)
theorem dX1_takesNumbers_53 : decode cX1_takesNumbers 53 = .ok (.putfield 45, 3) := dk_181 0 45 (dk_at dksX1_takesNumbers_2 5 rfl rfl)
theorem dX1_takesNumbers_56 : decode cX1_takesNumbers 56 = .ok (.aload_n 0, 1) := dk_42 (dk_at dksX1_takesNumbers_2 8 rfl rfl)
theorem dX1_takesNumbers_57 : decode cX1_takesNumbers 57 = .ok (.aload_n 1, 1) := dk_43 (dk_at dksX1_takesNumbers_2 9 rfl rfl)
theorem dX1_takesNumbers_58 : decode cX1_takesNumbers 58 = .ok (.getfield 115, 3) := dk_180 0 115 (dk_at dksX1_takesNumbers_2 10 rfl rfl)
theorem dX1_takesNumbers_61 : decode cX1_takesNumbers 61 = .ok (.putfield 115, 3) := dk_181 0 115 (dk_at dksX1_takesNumbers_2 13 rfl rfl)
theorem dX1_takesNumbers_64 : decode cX1_takesNumbers 64 = .ok (.aload_n 0, 1) := dk_42 (dk_at dksX1_takesNumbers_2 16 rfl rfl)
theorem dX1_takesNumbers_65 : decode cX1_takesNumbers 65 = .ok (.aload_n 1, 1) := dk_43 (dk_at dksX1_takesNumbers_2 17 rfl rfl)
theorem dX1_takesNumbers_66 : decode cX1_takesNumbers 66 = .ok (.getfield 118, 3) := dk_180 0 118 (dk_at dksX1_takesNumbers_2 18 rfl rfl)
theorem dX1_takesNumbers_69 : decode cX1_takesNumbers 69 = .ok (.putfield 118, 3) := dk_181 0 118 (dk_at dksX1_takesNumbers_2 21 rfl rfl)
theorem dX1_takesNumbers_72 : decode cX1_takesNumbers 72 = .ok (.aload_n 0, 1) := dk_42 (dk_at dksX1_takesNumbers_3 0 rfl rfl)
theorem dX1_takesNumbers_73 : decode cX1_takesNumbers 73 = .ok (.aload_n 1, 1) := dk_43 (dk_at dksX1_takesNumbers_3 1 rfl rfl)
theorem dX1_takesNumbers_74 : decode cX1_takesNumbers 74 = .ok (.getfield 121, 3) := dk_180 0 121 (dk_at dksX1_takesNumbers_3 2 rfl rfl)
theorem dX1_takesNumbers_77 : decode cX1_takesNumbers 77 = .ok (.putfield 121, 3) := dk_181 0 121 (dk_at dksX1_takesNumbers_3 5 rfl rfl)
theorem dX1_takesNumbers_80 : decode cX1_takesNumbers 80 = .ok (.return_, 1) := dk_177 (dk_at dksX1_takesNumbers_3 8 rfl rfl)
abbrev cX1_comes : ByteArray := prog_2_method_9_code
def yX1_comes : MethodName := ⟨RX1, "comes", "(I)I"⟩
def dkwX1_comes_2 : List UInt8 := [172]
abbrev dktX1_comes_2 : List UInt8 := dkwX1_comes_2 ++ []
def dkwX1_comes_1 : List UInt8 := [180, 0, 20, 187, 0, 75, 89, 27, 183, 0, 144, 182, 0, 41, 87, 42, 180, 0, 20, 182, 0, 124, 4, 100]
abbrev dktX1_comes_1 : List UInt8 := dkwX1_comes_1 ++ dktX1_comes_2
def dkwX1_comes_0 : List UInt8 := [42, 180, 0, 20, 182, 0, 124, 7, 160, 0, 7, 4, 167, 0, 4, 3, 4, 7, 184, 0, 133, 42]
abbrev dktX1_comes_0 : List UInt8 := dkwX1_comes_0 ++ dktX1_comes_1
theorem dksX1_comes_0 : cX1_comes.data.toList.drop 0 = dktX1_comes_0 := by decide +kernel
theorem dksX1_comes_1 : cX1_comes.data.toList.drop 22 = dktX1_comes_1 := dk_seg dksX1_comes_0 22 rfl rfl
theorem dksX1_comes_2 : cX1_comes.data.toList.drop 46 = dktX1_comes_2 := dk_seg dksX1_comes_1 24 rfl rfl
theorem dX1_comes_0 : decode cX1_comes 0 = .ok (.aload_n 0, 1) := dk_42 (dk_at dksX1_comes_0 0 rfl rfl)
theorem dX1_comes_1 : decode cX1_comes 1 = .ok (.getfield 20, 3) := dk_180 0 20 (dk_at dksX1_comes_0 1 rfl rfl)
theorem dX1_comes_4 : decode cX1_comes 4 = .ok (.invokevirtual 124, 3) := dk_182 0 124 (dk_at dksX1_comes_0 4 rfl rfl)
theorem dX1_comes_7 : decode cX1_comes 7 = .ok (.iconst 4, 1) := dk_7 (dk_at dksX1_comes_0 7 rfl rfl)
theorem dX1_comes_8 : decode cX1_comes 8 = .ok (.if_icmp .ne 7, 3) := dk_160 0 7 (dk_at dksX1_comes_0 8 rfl rfl)
theorem dX1_comes_11 : decode cX1_comes 11 = .ok (.iconst 1, 1) := dk_4 (dk_at dksX1_comes_0 11 rfl rfl)
theorem dX1_comes_12 : decode cX1_comes 12 = .ok (.goto 4, 3) := dk_167 0 4 (dk_at dksX1_comes_0 12 rfl rfl)
theorem dX1_comes_15 : decode cX1_comes 15 = .ok (.iconst 0, 1) := dk_3 (dk_at dksX1_comes_0 15 rfl rfl)
theorem dX1_comes_16 : decode cX1_comes 16 = .ok (.iconst 1, 1) := dk_4 (dk_at dksX1_comes_0 16 rfl rfl)
theorem dX1_comes_17 : decode cX1_comes 17 = .ok (.iconst 4, 1) := dk_7 (dk_at dksX1_comes_0 17 rfl rfl)
theorem dX1_comes_18 : decode cX1_comes 18 = .ok (.invokestatic 133, 3) := dk_184 0 133 (dk_at dksX1_comes_0 18 rfl rfl)
theorem dX1_comes_21 : decode cX1_comes 21 = .ok (.aload_n 0, 1) := dk_42 (dk_at dksX1_comes_0 21 rfl rfl)
theorem dX1_comes_22 : decode cX1_comes 22 = .ok (.getfield 20, 3) := dk_180 0 20 (dk_at dksX1_comes_1 0 rfl rfl)
theorem dX1_comes_25 : decode cX1_comes 25 = .ok (.new 75, 3) := dk_187 0 75 (dk_at dksX1_comes_1 3 rfl rfl)
theorem dX1_comes_28 : decode cX1_comes 28 = .ok (.dup, 1) := dk_89 (dk_at dksX1_comes_1 6 rfl rfl)
theorem dX1_comes_29 : decode cX1_comes 29 = .ok (.iload_n 1, 1) := dk_27 (dk_at dksX1_comes_1 7 rfl rfl)
theorem dX1_comes_30 : decode cX1_comes 30 = .ok (.invokespecial 144, 3) := dk_183 0 144 (dk_at dksX1_comes_1 8 rfl rfl)
theorem dX1_comes_33 : decode cX1_comes 33 = .ok (.invokevirtual 41, 3) := dk_182 0 41 (dk_at dksX1_comes_1 11 rfl rfl)
theorem dX1_comes_36 : decode cX1_comes 36 = .ok (.pop, 1) := dk_87 (dk_at dksX1_comes_1 14 rfl rfl)
theorem dX1_comes_37 : decode cX1_comes 37 = .ok (.aload_n 0, 1) := dk_42 (dk_at dksX1_comes_1 15 rfl rfl)
theorem dX1_comes_38 : decode cX1_comes 38 = .ok (.getfield 20, 3) := dk_180 0 20 (dk_at dksX1_comes_1 16 rfl rfl)
theorem dX1_comes_41 : decode cX1_comes 41 = .ok (.invokevirtual 124, 3) := dk_182 0 124 (dk_at dksX1_comes_1 19 rfl rfl)
theorem dX1_comes_44 : decode cX1_comes 44 = .ok (.iconst 1, 1) := dk_4 (dk_at dksX1_comes_1 22 rfl rfl)
theorem dX1_comes_45 : decode cX1_comes 45 = .ok (.isub, 1) := dk_100 (dk_at dksX1_comes_1 23 rfl rfl)
theorem dX1_comes_46 : decode cX1_comes 46 = .ok (.ireturn, 1) := dk_172 (dk_at dksX1_comes_2 0 rfl rfl)
abbrev cX1_bringsDog : ByteArray := prog_2_method_11_code
def yX1_bringsDog : MethodName := ⟨RX1, "bringsDog", "(II)I"⟩
def dkwX1_bringsDog_1 : List UInt8 := [167, 0, 4, 3, 16, 15, 45, 180, 0, 145, 184, 0, 133, 45, 28, 181, 0, 145, 42, 182, 0, 148, 172]
abbrev dktX1_bringsDog_1 : List UInt8 := dkwX1_bringsDog_1 ++ []
def dkwX1_bringsDog_0 : List UInt8 := [42, 180, 0, 14, 27, 182, 0, 49, 192, 0, 38, 78, 45, 180, 0, 145, 16, 241, 159, 0, 7, 4]
abbrev dktX1_bringsDog_0 : List UInt8 := dkwX1_bringsDog_0 ++ dktX1_bringsDog_1
theorem dksX1_bringsDog_0 : cX1_bringsDog.data.toList.drop 0 = dktX1_bringsDog_0 := by decide +kernel
theorem dksX1_bringsDog_1 : cX1_bringsDog.data.toList.drop 22 = dktX1_bringsDog_1 := dk_seg dksX1_bringsDog_0 22 rfl rfl
theorem dX1_bringsDog_0 : decode cX1_bringsDog 0 = .ok (.aload_n 0, 1) := dk_42 (dk_at dksX1_bringsDog_0 0 rfl rfl)
theorem dX1_bringsDog_1 : decode cX1_bringsDog 1 = .ok (.getfield 14, 3) := dk_180 0 14 (dk_at dksX1_bringsDog_0 1 rfl rfl)
theorem dX1_bringsDog_4 : decode cX1_bringsDog 4 = .ok (.iload_n 1, 1) := dk_27 (dk_at dksX1_bringsDog_0 4 rfl rfl)
theorem dX1_bringsDog_5 : decode cX1_bringsDog 5 = .ok (.invokevirtual 49, 3) := dk_182 0 49 (dk_at dksX1_bringsDog_0 5 rfl rfl)
theorem dX1_bringsDog_8 : decode cX1_bringsDog 8 = .ok (.checkcast 38, 3) := dk_192 0 38 (dk_at dksX1_bringsDog_0 8 rfl rfl)
theorem dX1_bringsDog_11 : decode cX1_bringsDog 11 = .ok (.astore_n 3, 1) := dk_78 (dk_at dksX1_bringsDog_0 11 rfl rfl)
theorem dX1_bringsDog_12 : decode cX1_bringsDog 12 = .ok (.aload_n 3, 1) := dk_45 (dk_at dksX1_bringsDog_0 12 rfl rfl)
theorem dX1_bringsDog_13 : decode cX1_bringsDog 13 = .ok (.getfield 145, 3) := dk_180 0 145 (dk_at dksX1_bringsDog_0 13 rfl rfl)
theorem dX1_bringsDog_16 : decode cX1_bringsDog 16 = .ok (.bipush (-15), 2) := dk_16 241 (dk_at dksX1_bringsDog_0 16 rfl rfl)
theorem dX1_bringsDog_18 : decode cX1_bringsDog 18 = .ok (.if_icmp .eq 7, 3) := dk_159 0 7 (dk_at dksX1_bringsDog_0 18 rfl rfl)
theorem dX1_bringsDog_21 : decode cX1_bringsDog 21 = .ok (.iconst 1, 1) := dk_4 (dk_at dksX1_bringsDog_0 21 rfl rfl)
theorem dX1_bringsDog_22 : decode cX1_bringsDog 22 = .ok (.goto 4, 3) := dk_167 0 4 (dk_at dksX1_bringsDog_1 0 rfl rfl)
theorem dX1_bringsDog_25 : decode cX1_bringsDog 25 = .ok (.iconst 0, 1) := dk_3 (dk_at dksX1_bringsDog_1 3 rfl rfl)
theorem dX1_bringsDog_26 : decode cX1_bringsDog 26 = .ok (.bipush 15, 2) := dk_16 15 (dk_at dksX1_bringsDog_1 4 rfl rfl)
theorem dX1_bringsDog_28 : decode cX1_bringsDog 28 = .ok (.aload_n 3, 1) := dk_45 (dk_at dksX1_bringsDog_1 6 rfl rfl)
theorem dX1_bringsDog_29 : decode cX1_bringsDog 29 = .ok (.getfield 145, 3) := dk_180 0 145 (dk_at dksX1_bringsDog_1 7 rfl rfl)
theorem dX1_bringsDog_32 : decode cX1_bringsDog 32 = .ok (.invokestatic 133, 3) := dk_184 0 133 (dk_at dksX1_bringsDog_1 10 rfl rfl)
theorem dX1_bringsDog_35 : decode cX1_bringsDog 35 = .ok (.aload_n 3, 1) := dk_45 (dk_at dksX1_bringsDog_1 13 rfl rfl)
theorem dX1_bringsDog_36 : decode cX1_bringsDog 36 = .ok (.iload_n 2, 1) := dk_28 (dk_at dksX1_bringsDog_1 14 rfl rfl)
theorem dX1_bringsDog_37 : decode cX1_bringsDog 37 = .ok (.putfield 145, 3) := dk_181 0 145 (dk_at dksX1_bringsDog_1 15 rfl rfl)
theorem dX1_bringsDog_40 : decode cX1_bringsDog 40 = .ok (.aload_n 0, 1) := dk_42 (dk_at dksX1_bringsDog_1 18 rfl rfl)
theorem dX1_bringsDog_41 : decode cX1_bringsDog 41 = .ok (.invokevirtual 148, 3) := dk_182 0 148 (dk_at dksX1_bringsDog_1 19 rfl rfl)
theorem dX1_bringsDog_44 : decode cX1_bringsDog 44 = .ok (.ireturn, 1) := dk_172 (dk_at dksX1_bringsDog_1 22 rfl rfl)
abbrev cX1_dogs : ByteArray := prog_2_method_10_code
def yX1_dogs : MethodName := ⟨RX1, "dogs", "()I"⟩
def dkwX1_dogs_2 : List UInt8 := [96, 60, 167, 255, 220, 27, 172]
abbrev dktX1_dogs_2 : List UInt8 := dkwX1_dogs_2 ++ []
def dkwX1_dogs_1 : List UInt8 := [185, 0, 71, 1, 0, 192, 0, 38, 78, 27, 45, 180, 0, 145, 16, 241, 160, 0, 7, 3, 167, 0, 4, 4]
abbrev dktX1_dogs_1 : List UInt8 := dkwX1_dogs_1 ++ dktX1_dogs_2
def dkwX1_dogs_0 : List UInt8 := [3, 60, 42, 180, 0, 14, 182, 0, 61, 77, 44, 185, 0, 65, 1, 0, 153, 0, 33, 44]
abbrev dktX1_dogs_0 : List UInt8 := dkwX1_dogs_0 ++ dktX1_dogs_1
theorem dksX1_dogs_0 : cX1_dogs.data.toList.drop 0 = dktX1_dogs_0 := by decide +kernel
theorem dksX1_dogs_1 : cX1_dogs.data.toList.drop 20 = dktX1_dogs_1 := dk_seg dksX1_dogs_0 20 rfl rfl
theorem dksX1_dogs_2 : cX1_dogs.data.toList.drop 44 = dktX1_dogs_2 := dk_seg dksX1_dogs_1 24 rfl rfl
theorem dX1_dogs_0 : decode cX1_dogs 0 = .ok (.iconst 0, 1) := dk_3 (dk_at dksX1_dogs_0 0 rfl rfl)
theorem dX1_dogs_1 : decode cX1_dogs 1 = .ok (.istore_n 1, 1) := dk_60 (dk_at dksX1_dogs_0 1 rfl rfl)
theorem dX1_dogs_2 : decode cX1_dogs 2 = .ok (.aload_n 0, 1) := dk_42 (dk_at dksX1_dogs_0 2 rfl rfl)
theorem dX1_dogs_3 : decode cX1_dogs 3 = .ok (.getfield 14, 3) := dk_180 0 14 (dk_at dksX1_dogs_0 3 rfl rfl)
theorem dX1_dogs_6 : decode cX1_dogs 6 = .ok (.invokevirtual 61, 3) := dk_182 0 61 (dk_at dksX1_dogs_0 6 rfl rfl)
theorem dX1_dogs_9 : decode cX1_dogs 9 = .ok (.astore_n 2, 1) := dk_77 (dk_at dksX1_dogs_0 9 rfl rfl)
theorem dX1_dogs_10 : decode cX1_dogs 10 = .ok (.aload_n 2, 1) := dk_44 (dk_at dksX1_dogs_0 10 rfl rfl)
theorem dX1_dogs_11 : decode cX1_dogs 11 = .ok (.invokeinterface 65 1, 5) := by decide +kernel
theorem dX1_dogs_16 : decode cX1_dogs 16 = .ok (.ifCond .eq 33, 3) := dk_153 0 33 (dk_at dksX1_dogs_0 16 rfl rfl)
theorem dX1_dogs_19 : decode cX1_dogs 19 = .ok (.aload_n 2, 1) := dk_44 (dk_at dksX1_dogs_0 19 rfl rfl)
theorem dX1_dogs_20 : decode cX1_dogs 20 = .ok (.invokeinterface 71 1, 5) := by decide +kernel
theorem dX1_dogs_25 : decode cX1_dogs 25 = .ok (.checkcast 38, 3) := dk_192 0 38 (dk_at dksX1_dogs_1 5 rfl rfl)
theorem dX1_dogs_28 : decode cX1_dogs 28 = .ok (.astore_n 3, 1) := dk_78 (dk_at dksX1_dogs_1 8 rfl rfl)
theorem dX1_dogs_29 : decode cX1_dogs 29 = .ok (.iload_n 1, 1) := dk_27 (dk_at dksX1_dogs_1 9 rfl rfl)
theorem dX1_dogs_30 : decode cX1_dogs 30 = .ok (.aload_n 3, 1) := dk_45 (dk_at dksX1_dogs_1 10 rfl rfl)
theorem dX1_dogs_31 : decode cX1_dogs 31 = .ok (.getfield 145, 3) := dk_180 0 145 (dk_at dksX1_dogs_1 11 rfl rfl)
theorem dX1_dogs_34 : decode cX1_dogs 34 = .ok (.bipush (-15), 2) := dk_16 241 (dk_at dksX1_dogs_1 14 rfl rfl)
theorem dX1_dogs_36 : decode cX1_dogs 36 = .ok (.if_icmp .ne 7, 3) := dk_160 0 7 (dk_at dksX1_dogs_1 16 rfl rfl)
theorem dX1_dogs_39 : decode cX1_dogs 39 = .ok (.iconst 0, 1) := dk_3 (dk_at dksX1_dogs_1 19 rfl rfl)
theorem dX1_dogs_40 : decode cX1_dogs 40 = .ok (.goto 4, 3) := dk_167 0 4 (dk_at dksX1_dogs_1 20 rfl rfl)
theorem dX1_dogs_43 : decode cX1_dogs 43 = .ok (.iconst 1, 1) := dk_4 (dk_at dksX1_dogs_1 23 rfl rfl)
theorem dX1_dogs_44 : decode cX1_dogs 44 = .ok (.iadd, 1) := dk_96 (dk_at dksX1_dogs_2 0 rfl rfl)
theorem dX1_dogs_45 : decode cX1_dogs 45 = .ok (.istore_n 1, 1) := dk_60 (dk_at dksX1_dogs_2 1 rfl rfl)
theorem dX1_dogs_46 : decode cX1_dogs 46 = .ok (.goto (-36), 3) := dk_167 255 220 (dk_at dksX1_dogs_2 2 rfl rfl)
theorem dX1_dogs_49 : decode cX1_dogs 49 = .ok (.iload_n 1, 1) := dk_27 (dk_at dksX1_dogs_2 5 rfl rfl)
theorem dX1_dogs_50 : decode cX1_dogs 50 = .ok (.ireturn, 1) := dk_172 (dk_at dksX1_dogs_2 6 rfl rfl)
abbrev cX1_makes : ByteArray := prog_2_method_12_code
def yX1_makes : MethodName := ⟨RX1, "makes", "(II)I"⟩
def dkwX1_makes_3 : List UInt8 := [89, 180, 0, 45, 28, 96, 181, 0, 45, 42, 180, 0, 30, 27, 46, 172]
abbrev dktX1_makes_3 : List UInt8 := dkwX1_makes_3 ++ []
def dkwX1_makes_2 : List UInt8 := [182, 0, 151, 42, 89, 180, 0, 112, 29, 96, 181, 0, 112, 42, 180, 0, 30, 27, 92, 46, 28, 96, 79, 42]
abbrev dktX1_makes_2 : List UInt8 := dkwX1_makes_2 ++ dktX1_makes_3
def dkwX1_makes_1 : List UInt8 := [180, 0, 30, 27, 46, 184, 0, 133, 27, 4, 160, 0, 9, 5, 28, 104, 167, 0, 4, 28, 62, 42, 29]
abbrev dktX1_makes_1 : List UInt8 := dkwX1_makes_1 ++ dktX1_makes_2
def dkwX1_makes_0 : List UInt8 := [42, 180, 0, 30, 27, 46, 28, 96, 17, 0, 200, 164, 0, 7, 4, 167, 0, 4, 3, 16, 16, 42]
abbrev dktX1_makes_0 : List UInt8 := dkwX1_makes_0 ++ dktX1_makes_1
theorem dksX1_makes_0 : cX1_makes.data.toList.drop 0 = dktX1_makes_0 := by decide +kernel
theorem dksX1_makes_1 : cX1_makes.data.toList.drop 22 = dktX1_makes_1 := dk_seg dksX1_makes_0 22 rfl rfl
theorem dksX1_makes_2 : cX1_makes.data.toList.drop 45 = dktX1_makes_2 := dk_seg dksX1_makes_1 23 rfl rfl
theorem dksX1_makes_3 : cX1_makes.data.toList.drop 69 = dktX1_makes_3 := dk_seg dksX1_makes_2 24 rfl rfl
theorem dX1_makes_0 : decode cX1_makes 0 = .ok (.aload_n 0, 1) := dk_42 (dk_at dksX1_makes_0 0 rfl rfl)
theorem dX1_makes_1 : decode cX1_makes 1 = .ok (.getfield 30, 3) := dk_180 0 30 (dk_at dksX1_makes_0 1 rfl rfl)
theorem dX1_makes_4 : decode cX1_makes 4 = .ok (.iload_n 1, 1) := dk_27 (dk_at dksX1_makes_0 4 rfl rfl)
theorem dX1_makes_5 : decode cX1_makes 5 = .ok (.iaload, 1) := dk_46 (dk_at dksX1_makes_0 5 rfl rfl)
theorem dX1_makes_6 : decode cX1_makes 6 = .ok (.iload_n 2, 1) := dk_28 (dk_at dksX1_makes_0 6 rfl rfl)
theorem dX1_makes_7 : decode cX1_makes 7 = .ok (.iadd, 1) := dk_96 (dk_at dksX1_makes_0 7 rfl rfl)
theorem dX1_makes_8 : decode cX1_makes 8 = .ok (.sipush 200, 3) := dk_17 0 200 (dk_at dksX1_makes_0 8 rfl rfl)
theorem dX1_makes_11 : decode cX1_makes 11 = .ok (.if_icmp .le 7, 3) := dk_164 0 7 (dk_at dksX1_makes_0 11 rfl rfl)
theorem dX1_makes_14 : decode cX1_makes 14 = .ok (.iconst 1, 1) := dk_4 (dk_at dksX1_makes_0 14 rfl rfl)
theorem dX1_makes_15 : decode cX1_makes 15 = .ok (.goto 4, 3) := dk_167 0 4 (dk_at dksX1_makes_0 15 rfl rfl)
theorem dX1_makes_18 : decode cX1_makes 18 = .ok (.iconst 0, 1) := dk_3 (dk_at dksX1_makes_0 18 rfl rfl)
theorem dX1_makes_19 : decode cX1_makes 19 = .ok (.bipush 16, 2) := dk_16 16 (dk_at dksX1_makes_0 19 rfl rfl)
theorem dX1_makes_21 : decode cX1_makes 21 = .ok (.aload_n 0, 1) := dk_42 (dk_at dksX1_makes_0 21 rfl rfl)
theorem dX1_makes_22 : decode cX1_makes 22 = .ok (.getfield 30, 3) := dk_180 0 30 (dk_at dksX1_makes_1 0 rfl rfl)
theorem dX1_makes_25 : decode cX1_makes 25 = .ok (.iload_n 1, 1) := dk_27 (dk_at dksX1_makes_1 3 rfl rfl)
theorem dX1_makes_26 : decode cX1_makes 26 = .ok (.iaload, 1) := dk_46 (dk_at dksX1_makes_1 4 rfl rfl)
theorem dX1_makes_27 : decode cX1_makes 27 = .ok (.invokestatic 133, 3) := dk_184 0 133 (dk_at dksX1_makes_1 5 rfl rfl)
theorem dX1_makes_30 : decode cX1_makes 30 = .ok (.iload_n 1, 1) := dk_27 (dk_at dksX1_makes_1 8 rfl rfl)
theorem dX1_makes_31 : decode cX1_makes 31 = .ok (.iconst 1, 1) := dk_4 (dk_at dksX1_makes_1 9 rfl rfl)
theorem dX1_makes_32 : decode cX1_makes 32 = .ok (.if_icmp .ne 9, 3) := dk_160 0 9 (dk_at dksX1_makes_1 10 rfl rfl)
theorem dX1_makes_35 : decode cX1_makes 35 = .ok (.iconst 2, 1) := dk_5 (dk_at dksX1_makes_1 13 rfl rfl)
theorem dX1_makes_36 : decode cX1_makes 36 = .ok (.iload_n 2, 1) := dk_28 (dk_at dksX1_makes_1 14 rfl rfl)
theorem dX1_makes_37 : decode cX1_makes 37 = .ok (.imul, 1) := dk_104 (dk_at dksX1_makes_1 15 rfl rfl)
theorem dX1_makes_38 : decode cX1_makes 38 = .ok (.goto 4, 3) := dk_167 0 4 (dk_at dksX1_makes_1 16 rfl rfl)
theorem dX1_makes_41 : decode cX1_makes 41 = .ok (.iload_n 2, 1) := dk_28 (dk_at dksX1_makes_1 19 rfl rfl)
theorem dX1_makes_42 : decode cX1_makes 42 = .ok (.istore_n 3, 1) := dk_62 (dk_at dksX1_makes_1 20 rfl rfl)
theorem dX1_makes_43 : decode cX1_makes 43 = .ok (.aload_n 0, 1) := dk_42 (dk_at dksX1_makes_1 21 rfl rfl)
theorem dX1_makes_44 : decode cX1_makes 44 = .ok (.iload_n 3, 1) := dk_29 (dk_at dksX1_makes_1 22 rfl rfl)
theorem dX1_makes_45 : decode cX1_makes 45 = .ok (.invokevirtual 151, 3) := dk_182 0 151 (dk_at dksX1_makes_2 0 rfl rfl)
theorem dX1_makes_48 : decode cX1_makes 48 = .ok (.aload_n 0, 1) := dk_42 (dk_at dksX1_makes_2 3 rfl rfl)
theorem dX1_makes_49 : decode cX1_makes 49 = .ok (.dup, 1) := dk_89 (dk_at dksX1_makes_2 4 rfl rfl)
theorem dX1_makes_50 : decode cX1_makes 50 = .ok (.getfield 112, 3) := dk_180 0 112 (dk_at dksX1_makes_2 5 rfl rfl)
theorem dX1_makes_53 : decode cX1_makes 53 = .ok (.iload_n 3, 1) := dk_29 (dk_at dksX1_makes_2 8 rfl rfl)
theorem dX1_makes_54 : decode cX1_makes 54 = .ok (.iadd, 1) := dk_96 (dk_at dksX1_makes_2 9 rfl rfl)
theorem dX1_makes_55 : decode cX1_makes 55 = .ok (.putfield 112, 3) := dk_181 0 112 (dk_at dksX1_makes_2 10 rfl rfl)
theorem dX1_makes_58 : decode cX1_makes 58 = .ok (.aload_n 0, 1) := dk_42 (dk_at dksX1_makes_2 13 rfl rfl)
theorem dX1_makes_59 : decode cX1_makes 59 = .ok (.getfield 30, 3) := dk_180 0 30 (dk_at dksX1_makes_2 14 rfl rfl)
theorem dX1_makes_62 : decode cX1_makes 62 = .ok (.iload_n 1, 1) := dk_27 (dk_at dksX1_makes_2 17 rfl rfl)
theorem dX1_makes_63 : decode cX1_makes 63 = .ok (.dup2, 1) := dk_92 (dk_at dksX1_makes_2 18 rfl rfl)
theorem dX1_makes_64 : decode cX1_makes 64 = .ok (.iaload, 1) := dk_46 (dk_at dksX1_makes_2 19 rfl rfl)
theorem dX1_makes_65 : decode cX1_makes 65 = .ok (.iload_n 2, 1) := dk_28 (dk_at dksX1_makes_2 20 rfl rfl)
theorem dX1_makes_66 : decode cX1_makes 66 = .ok (.iadd, 1) := dk_96 (dk_at dksX1_makes_2 21 rfl rfl)
theorem dX1_makes_67 : decode cX1_makes 67 = .ok (.iastore, 1) := dk_79 (dk_at dksX1_makes_2 22 rfl rfl)
theorem dX1_makes_68 : decode cX1_makes 68 = .ok (.aload_n 0, 1) := dk_42 (dk_at dksX1_makes_2 23 rfl rfl)
theorem dX1_makes_69 : decode cX1_makes 69 = .ok (.dup, 1) := dk_89 (dk_at dksX1_makes_3 0 rfl rfl)
theorem dX1_makes_70 : decode cX1_makes 70 = .ok (.getfield 45, 3) := dk_180 0 45 (dk_at dksX1_makes_3 1 rfl rfl)
theorem dX1_makes_73 : decode cX1_makes 73 = .ok (.iload_n 2, 1) := dk_28 (dk_at dksX1_makes_3 4 rfl rfl)
theorem dX1_makes_74 : decode cX1_makes 74 = .ok (.iadd, 1) := dk_96 (dk_at dksX1_makes_3 5 rfl rfl)
theorem dX1_makes_75 : decode cX1_makes 75 = .ok (.putfield 45, 3) := dk_181 0 45 (dk_at dksX1_makes_3 6 rfl rfl)
theorem dX1_makes_78 : decode cX1_makes 78 = .ok (.aload_n 0, 1) := dk_42 (dk_at dksX1_makes_3 9 rfl rfl)
theorem dX1_makes_79 : decode cX1_makes 79 = .ok (.getfield 30, 3) := dk_180 0 30 (dk_at dksX1_makes_3 10 rfl rfl)
theorem dX1_makes_82 : decode cX1_makes 82 = .ok (.iload_n 1, 1) := dk_27 (dk_at dksX1_makes_3 13 rfl rfl)
theorem dX1_makes_83 : decode cX1_makes 83 = .ok (.iaload, 1) := dk_46 (dk_at dksX1_makes_3 14 rfl rfl)
theorem dX1_makes_84 : decode cX1_makes 84 = .ok (.ireturn, 1) := dk_172 (dk_at dksX1_makes_3 15 rfl rfl)
abbrev cX1_pays : ByteArray := prog_2_method_6_code
def yX1_pays : MethodName := ⟨RX1, "pays", "(I)V"⟩
def dkwX1_pays_1 : List UInt8 := [42, 89, 180, 0, 34, 27, 100, 181, 0, 34, 177]
abbrev dktX1_pays_1 : List UInt8 := dkwX1_pays_1 ++ []
def dkwX1_pays_0 : List UInt8 := [42, 180, 0, 34, 27, 162, 0, 7, 4, 167, 0, 4, 3, 16, 8, 27, 42, 180, 0, 34, 100, 184, 0, 133]
abbrev dktX1_pays_0 : List UInt8 := dkwX1_pays_0 ++ dktX1_pays_1
theorem dksX1_pays_0 : cX1_pays.data.toList.drop 0 = dktX1_pays_0 := by decide +kernel
theorem dksX1_pays_1 : cX1_pays.data.toList.drop 24 = dktX1_pays_1 := dk_seg dksX1_pays_0 24 rfl rfl
theorem dX1_pays_0 : decode cX1_pays 0 = .ok (.aload_n 0, 1) := dk_42 (dk_at dksX1_pays_0 0 rfl rfl)
theorem dX1_pays_1 : decode cX1_pays 1 = .ok (.getfield 34, 3) := dk_180 0 34 (dk_at dksX1_pays_0 1 rfl rfl)
theorem dX1_pays_4 : decode cX1_pays 4 = .ok (.iload_n 1, 1) := dk_27 (dk_at dksX1_pays_0 4 rfl rfl)
theorem dX1_pays_5 : decode cX1_pays 5 = .ok (.if_icmp .ge 7, 3) := dk_162 0 7 (dk_at dksX1_pays_0 5 rfl rfl)
theorem dX1_pays_8 : decode cX1_pays 8 = .ok (.iconst 1, 1) := dk_4 (dk_at dksX1_pays_0 8 rfl rfl)
theorem dX1_pays_9 : decode cX1_pays 9 = .ok (.goto 4, 3) := dk_167 0 4 (dk_at dksX1_pays_0 9 rfl rfl)
theorem dX1_pays_12 : decode cX1_pays 12 = .ok (.iconst 0, 1) := dk_3 (dk_at dksX1_pays_0 12 rfl rfl)
theorem dX1_pays_13 : decode cX1_pays 13 = .ok (.bipush 8, 2) := dk_16 8 (dk_at dksX1_pays_0 13 rfl rfl)
theorem dX1_pays_15 : decode cX1_pays 15 = .ok (.iload_n 1, 1) := dk_27 (dk_at dksX1_pays_0 15 rfl rfl)
theorem dX1_pays_16 : decode cX1_pays 16 = .ok (.aload_n 0, 1) := dk_42 (dk_at dksX1_pays_0 16 rfl rfl)
theorem dX1_pays_17 : decode cX1_pays 17 = .ok (.getfield 34, 3) := dk_180 0 34 (dk_at dksX1_pays_0 17 rfl rfl)
theorem dX1_pays_20 : decode cX1_pays 20 = .ok (.isub, 1) := dk_100 (dk_at dksX1_pays_0 20 rfl rfl)
theorem dX1_pays_21 : decode cX1_pays 21 = .ok (.invokestatic 133, 3) := dk_184 0 133 (dk_at dksX1_pays_0 21 rfl rfl)
theorem dX1_pays_24 : decode cX1_pays 24 = .ok (.aload_n 0, 1) := dk_42 (dk_at dksX1_pays_1 0 rfl rfl)
theorem dX1_pays_25 : decode cX1_pays 25 = .ok (.dup, 1) := dk_89 (dk_at dksX1_pays_1 1 rfl rfl)
theorem dX1_pays_26 : decode cX1_pays 26 = .ok (.getfield 34, 3) := dk_180 0 34 (dk_at dksX1_pays_1 2 rfl rfl)
theorem dX1_pays_29 : decode cX1_pays 29 = .ok (.iload_n 1, 1) := dk_27 (dk_at dksX1_pays_1 5 rfl rfl)
theorem dX1_pays_30 : decode cX1_pays 30 = .ok (.isub, 1) := dk_100 (dk_at dksX1_pays_1 6 rfl rfl)
theorem dX1_pays_31 : decode cX1_pays 31 = .ok (.putfield 34, 3) := dk_181 0 34 (dk_at dksX1_pays_1 7 rfl rfl)
theorem dX1_pays_34 : decode cX1_pays 34 = .ok (.return_, 1) := dk_177 (dk_at dksX1_pays_1 10 rfl rfl)
abbrev cX1_isSeller : ByteArray := prog_2_method_4_code
def yX1_isSeller : MethodName := ⟨RX1, "isSeller", "(I)Z"⟩
def dkwX1_isSeller_0 : List UInt8 := [27, 3, 42, 180, 0, 20, 182, 0, 124, 4, 100, 184, 0, 128, 172]
abbrev dktX1_isSeller_0 : List UInt8 := dkwX1_isSeller_0 ++ []
theorem dksX1_isSeller_0 : cX1_isSeller.data.toList.drop 0 = dktX1_isSeller_0 := by decide +kernel
theorem dX1_isSeller_0 : decode cX1_isSeller 0 = .ok (.iload_n 1, 1) := dk_27 (dk_at dksX1_isSeller_0 0 rfl rfl)
theorem dX1_isSeller_1 : decode cX1_isSeller 1 = .ok (.iconst 0, 1) := dk_3 (dk_at dksX1_isSeller_0 1 rfl rfl)
theorem dX1_isSeller_2 : decode cX1_isSeller 2 = .ok (.aload_n 0, 1) := dk_42 (dk_at dksX1_isSeller_0 2 rfl rfl)
theorem dX1_isSeller_3 : decode cX1_isSeller 3 = .ok (.getfield 20, 3) := dk_180 0 20 (dk_at dksX1_isSeller_0 3 rfl rfl)
theorem dX1_isSeller_6 : decode cX1_isSeller 6 = .ok (.invokevirtual 124, 3) := dk_182 0 124 (dk_at dksX1_isSeller_0 6 rfl rfl)
theorem dX1_isSeller_9 : decode cX1_isSeller 9 = .ok (.iconst 1, 1) := dk_4 (dk_at dksX1_isSeller_0 9 rfl rfl)
theorem dX1_isSeller_10 : decode cX1_isSeller 10 = .ok (.isub, 1) := dk_100 (dk_at dksX1_isSeller_0 10 rfl rfl)
theorem dX1_isSeller_11 : decode cX1_isSeller 11 = .ok (.invokestatic 128, 3) := dk_184 0 128 (dk_at dksX1_isSeller_0 11 rfl rfl)
theorem dX1_isSeller_14 : decode cX1_isSeller 14 = .ok (.ireturn, 1) := dk_172 (dk_at dksX1_isSeller_0 14 rfl rfl)
abbrev cX1_takes : ByteArray := prog_2_method_15_code
def yX1_takes : MethodName := ⟨RX1, "takes", "(III)I"⟩
def dkwX1_takes_3 : List UInt8 := [79, 25, 4, 180, 0, 158, 28, 46, 172]
abbrev dktX1_takes_3 : List UInt8 := dkwX1_takes_3 ++ []
def dkwX1_takes_2 : List UInt8 := [46, 184, 0, 169, 42, 180, 0, 30, 28, 92, 46, 29, 100, 79, 25, 4, 180, 0, 158, 28, 92, 46, 29, 96]
abbrev dktX1_takes_2 : List UInt8 := dkwX1_takes_2 ++ dktX1_takes_3
def dkwX1_takes_1 : List UInt8 := [28, 29, 42, 180, 0, 30, 28, 46, 184, 0, 165, 167, 0, 17, 25, 4, 28, 29, 116, 42, 180, 0, 30, 28]
abbrev dktX1_takes_1 : List UInt8 := dkwX1_takes_1 ++ dktX1_takes_2
def dkwX1_takes_0 : List UInt8 := [42, 180, 0, 20, 27, 182, 0, 49, 192, 0, 75, 58, 4, 25, 4, 184, 0, 161, 29, 158, 0, 19, 25, 4]
abbrev dktX1_takes_0 : List UInt8 := dkwX1_takes_0 ++ dktX1_takes_1
theorem dksX1_takes_0 : cX1_takes.data.toList.drop 0 = dktX1_takes_0 := by decide +kernel
theorem dksX1_takes_1 : cX1_takes.data.toList.drop 24 = dktX1_takes_1 := dk_seg dksX1_takes_0 24 rfl rfl
theorem dksX1_takes_2 : cX1_takes.data.toList.drop 48 = dktX1_takes_2 := dk_seg dksX1_takes_1 24 rfl rfl
theorem dksX1_takes_3 : cX1_takes.data.toList.drop 72 = dktX1_takes_3 := dk_seg dksX1_takes_2 24 rfl rfl
theorem dX1_takes_0 : decode cX1_takes 0 = .ok (.aload_n 0, 1) := dk_42 (dk_at dksX1_takes_0 0 rfl rfl)
theorem dX1_takes_1 : decode cX1_takes 1 = .ok (.getfield 20, 3) := dk_180 0 20 (dk_at dksX1_takes_0 1 rfl rfl)
theorem dX1_takes_4 : decode cX1_takes 4 = .ok (.iload_n 1, 1) := dk_27 (dk_at dksX1_takes_0 4 rfl rfl)
theorem dX1_takes_5 : decode cX1_takes 5 = .ok (.invokevirtual 49, 3) := dk_182 0 49 (dk_at dksX1_takes_0 5 rfl rfl)
theorem dX1_takes_8 : decode cX1_takes 8 = .ok (.checkcast 75, 3) := dk_192 0 75 (dk_at dksX1_takes_0 8 rfl rfl)
theorem dX1_takes_11 : decode cX1_takes 11 = .ok (.astore 4, 2) := dk_58 4 (dk_at dksX1_takes_0 11 rfl rfl)
theorem dX1_takes_13 : decode cX1_takes 13 = .ok (.aload 4, 2) := dk_25 4 (dk_at dksX1_takes_0 13 rfl rfl)
theorem dX1_takes_15 : decode cX1_takes 15 = .ok (.invokestatic 161, 3) := dk_184 0 161 (dk_at dksX1_takes_0 15 rfl rfl)
theorem dX1_takes_18 : decode cX1_takes 18 = .ok (.iload_n 3, 1) := dk_29 (dk_at dksX1_takes_0 18 rfl rfl)
theorem dX1_takes_19 : decode cX1_takes 19 = .ok (.ifCond .le 19, 3) := dk_158 0 19 (dk_at dksX1_takes_0 19 rfl rfl)
theorem dX1_takes_22 : decode cX1_takes 22 = .ok (.aload 4, 2) := dk_25 4 (dk_at dksX1_takes_0 22 rfl rfl)
theorem dX1_takes_24 : decode cX1_takes 24 = .ok (.iload_n 2, 1) := dk_28 (dk_at dksX1_takes_1 0 rfl rfl)
theorem dX1_takes_25 : decode cX1_takes 25 = .ok (.iload_n 3, 1) := dk_29 (dk_at dksX1_takes_1 1 rfl rfl)
theorem dX1_takes_26 : decode cX1_takes 26 = .ok (.aload_n 0, 1) := dk_42 (dk_at dksX1_takes_1 2 rfl rfl)
theorem dX1_takes_27 : decode cX1_takes 27 = .ok (.getfield 30, 3) := dk_180 0 30 (dk_at dksX1_takes_1 3 rfl rfl)
theorem dX1_takes_30 : decode cX1_takes 30 = .ok (.iload_n 2, 1) := dk_28 (dk_at dksX1_takes_1 6 rfl rfl)
theorem dX1_takes_31 : decode cX1_takes 31 = .ok (.iaload, 1) := dk_46 (dk_at dksX1_takes_1 7 rfl rfl)
theorem dX1_takes_32 : decode cX1_takes 32 = .ok (.invokestatic 165, 3) := dk_184 0 165 (dk_at dksX1_takes_1 8 rfl rfl)
theorem dX1_takes_35 : decode cX1_takes 35 = .ok (.goto 17, 3) := dk_167 0 17 (dk_at dksX1_takes_1 11 rfl rfl)
theorem dX1_takes_38 : decode cX1_takes 38 = .ok (.aload 4, 2) := dk_25 4 (dk_at dksX1_takes_1 14 rfl rfl)
theorem dX1_takes_40 : decode cX1_takes 40 = .ok (.iload_n 2, 1) := dk_28 (dk_at dksX1_takes_1 16 rfl rfl)
theorem dX1_takes_41 : decode cX1_takes 41 = .ok (.iload_n 3, 1) := dk_29 (dk_at dksX1_takes_1 17 rfl rfl)
theorem dX1_takes_42 : decode cX1_takes 42 = .ok (.ineg, 1) := dk_116 (dk_at dksX1_takes_1 18 rfl rfl)
theorem dX1_takes_43 : decode cX1_takes 43 = .ok (.aload_n 0, 1) := dk_42 (dk_at dksX1_takes_1 19 rfl rfl)
theorem dX1_takes_44 : decode cX1_takes 44 = .ok (.getfield 30, 3) := dk_180 0 30 (dk_at dksX1_takes_1 20 rfl rfl)
theorem dX1_takes_47 : decode cX1_takes 47 = .ok (.iload_n 2, 1) := dk_28 (dk_at dksX1_takes_1 23 rfl rfl)
theorem dX1_takes_48 : decode cX1_takes 48 = .ok (.iaload, 1) := dk_46 (dk_at dksX1_takes_2 0 rfl rfl)
theorem dX1_takes_49 : decode cX1_takes 49 = .ok (.invokestatic 169, 3) := dk_184 0 169 (dk_at dksX1_takes_2 1 rfl rfl)
theorem dX1_takes_52 : decode cX1_takes 52 = .ok (.aload_n 0, 1) := dk_42 (dk_at dksX1_takes_2 4 rfl rfl)
theorem dX1_takes_53 : decode cX1_takes 53 = .ok (.getfield 30, 3) := dk_180 0 30 (dk_at dksX1_takes_2 5 rfl rfl)
theorem dX1_takes_56 : decode cX1_takes 56 = .ok (.iload_n 2, 1) := dk_28 (dk_at dksX1_takes_2 8 rfl rfl)
theorem dX1_takes_57 : decode cX1_takes 57 = .ok (.dup2, 1) := dk_92 (dk_at dksX1_takes_2 9 rfl rfl)
theorem dX1_takes_58 : decode cX1_takes 58 = .ok (.iaload, 1) := dk_46 (dk_at dksX1_takes_2 10 rfl rfl)
theorem dX1_takes_59 : decode cX1_takes 59 = .ok (.iload_n 3, 1) := dk_29 (dk_at dksX1_takes_2 11 rfl rfl)
theorem dX1_takes_60 : decode cX1_takes 60 = .ok (.isub, 1) := dk_100 (dk_at dksX1_takes_2 12 rfl rfl)
theorem dX1_takes_61 : decode cX1_takes 61 = .ok (.iastore, 1) := dk_79 (dk_at dksX1_takes_2 13 rfl rfl)
theorem dX1_takes_62 : decode cX1_takes 62 = .ok (.aload 4, 2) := dk_25 4 (dk_at dksX1_takes_2 14 rfl rfl)
theorem dX1_takes_64 : decode cX1_takes 64 = .ok (.getfield 158, 3) := dk_180 0 158 (dk_at dksX1_takes_2 16 rfl rfl)
theorem dX1_takes_67 : decode cX1_takes 67 = .ok (.iload_n 2, 1) := dk_28 (dk_at dksX1_takes_2 19 rfl rfl)
theorem dX1_takes_68 : decode cX1_takes 68 = .ok (.dup2, 1) := dk_92 (dk_at dksX1_takes_2 20 rfl rfl)
theorem dX1_takes_69 : decode cX1_takes 69 = .ok (.iaload, 1) := dk_46 (dk_at dksX1_takes_2 21 rfl rfl)
theorem dX1_takes_70 : decode cX1_takes 70 = .ok (.iload_n 3, 1) := dk_29 (dk_at dksX1_takes_2 22 rfl rfl)
theorem dX1_takes_71 : decode cX1_takes 71 = .ok (.iadd, 1) := dk_96 (dk_at dksX1_takes_2 23 rfl rfl)
theorem dX1_takes_72 : decode cX1_takes 72 = .ok (.iastore, 1) := dk_79 (dk_at dksX1_takes_3 0 rfl rfl)
theorem dX1_takes_73 : decode cX1_takes 73 = .ok (.aload 4, 2) := dk_25 4 (dk_at dksX1_takes_3 1 rfl rfl)
theorem dX1_takes_75 : decode cX1_takes 75 = .ok (.getfield 158, 3) := dk_180 0 158 (dk_at dksX1_takes_3 3 rfl rfl)
theorem dX1_takes_78 : decode cX1_takes 78 = .ok (.iload_n 2, 1) := dk_28 (dk_at dksX1_takes_3 6 rfl rfl)
theorem dX1_takes_79 : decode cX1_takes 79 = .ok (.iaload, 1) := dk_46 (dk_at dksX1_takes_3 7 rfl rfl)
theorem dX1_takes_80 : decode cX1_takes 80 = .ok (.ireturn, 1) := dk_172 (dk_at dksX1_takes_3 8 rfl rfl)
abbrev cX1_checkAtDepot : ByteArray := prog_2_method_8_code
def yX1_checkAtDepot : MethodName := ⟨RX1, "checkAtDepot", "(LBrushSellers$Seller;)V"⟩
def dkwX1_checkAtDepot_0 : List UInt8 := [42, 3, 182, 0, 137, 154, 0, 7, 4, 167, 0, 4, 3, 7, 42, 180, 0, 141, 184, 0, 133, 177]
abbrev dktX1_checkAtDepot_0 : List UInt8 := dkwX1_checkAtDepot_0 ++ []
theorem dksX1_checkAtDepot_0 : cX1_checkAtDepot.data.toList.drop 0 = dktX1_checkAtDepot_0 := by decide +kernel
theorem dX1_checkAtDepot_0 : decode cX1_checkAtDepot 0 = .ok (.aload_n 0, 1) := dk_42 (dk_at dksX1_checkAtDepot_0 0 rfl rfl)
theorem dX1_checkAtDepot_1 : decode cX1_checkAtDepot 1 = .ok (.iconst 0, 1) := dk_3 (dk_at dksX1_checkAtDepot_0 1 rfl rfl)
theorem dX1_checkAtDepot_2 : decode cX1_checkAtDepot 2 = .ok (.invokevirtual 137, 3) := dk_182 0 137 (dk_at dksX1_checkAtDepot_0 2 rfl rfl)
theorem dX1_checkAtDepot_5 : decode cX1_checkAtDepot 5 = .ok (.ifCond .ne 7, 3) := dk_154 0 7 (dk_at dksX1_checkAtDepot_0 5 rfl rfl)
theorem dX1_checkAtDepot_8 : decode cX1_checkAtDepot 8 = .ok (.iconst 1, 1) := dk_4 (dk_at dksX1_checkAtDepot_0 8 rfl rfl)
theorem dX1_checkAtDepot_9 : decode cX1_checkAtDepot 9 = .ok (.goto 4, 3) := dk_167 0 4 (dk_at dksX1_checkAtDepot_0 9 rfl rfl)
theorem dX1_checkAtDepot_12 : decode cX1_checkAtDepot 12 = .ok (.iconst 0, 1) := dk_3 (dk_at dksX1_checkAtDepot_0 12 rfl rfl)
theorem dX1_checkAtDepot_13 : decode cX1_checkAtDepot 13 = .ok (.iconst 4, 1) := dk_7 (dk_at dksX1_checkAtDepot_0 13 rfl rfl)
theorem dX1_checkAtDepot_14 : decode cX1_checkAtDepot 14 = .ok (.aload_n 0, 1) := dk_42 (dk_at dksX1_checkAtDepot_0 14 rfl rfl)
theorem dX1_checkAtDepot_15 : decode cX1_checkAtDepot 15 = .ok (.getfield 141, 3) := dk_180 0 141 (dk_at dksX1_checkAtDepot_0 15 rfl rfl)
theorem dX1_checkAtDepot_18 : decode cX1_checkAtDepot 18 = .ok (.invokestatic 133, 3) := dk_184 0 133 (dk_at dksX1_checkAtDepot_0 18 rfl rfl)
theorem dX1_checkAtDepot_21 : decode cX1_checkAtDepot 21 = .ok (.return_, 1) := dk_177 (dk_at dksX1_checkAtDepot_0 21 rfl rfl)
abbrev cX1_checkFilling : ByteArray := prog_2_method_13_code
def yX1_checkFilling : MethodName := ⟨RX1, "checkFilling", "(LBrushSellers$Seller;III)V"⟩
def dkwX1_checkFilling_1 : List UInt8 := [162, 0, 7, 4, 167, 0, 4, 3, 16, 6, 42, 27, 182, 0, 154, 184, 0, 133, 177]
abbrev dktX1_checkFilling_1 : List UInt8 := dkwX1_checkFilling_1 ++ []
def dkwX1_checkFilling_0 : List UInt8 := [29, 28, 162, 0, 7, 4, 167, 0, 4, 3, 8, 28, 29, 100, 184, 0, 133, 42, 27, 182, 0, 154, 28]
abbrev dktX1_checkFilling_0 : List UInt8 := dkwX1_checkFilling_0 ++ dktX1_checkFilling_1
theorem dksX1_checkFilling_0 : cX1_checkFilling.data.toList.drop 0 = dktX1_checkFilling_0 := by decide +kernel
theorem dksX1_checkFilling_1 : cX1_checkFilling.data.toList.drop 23 = dktX1_checkFilling_1 := dk_seg dksX1_checkFilling_0 23 rfl rfl
theorem dX1_checkFilling_0 : decode cX1_checkFilling 0 = .ok (.iload_n 3, 1) := dk_29 (dk_at dksX1_checkFilling_0 0 rfl rfl)
theorem dX1_checkFilling_1 : decode cX1_checkFilling 1 = .ok (.iload_n 2, 1) := dk_28 (dk_at dksX1_checkFilling_0 1 rfl rfl)
theorem dX1_checkFilling_2 : decode cX1_checkFilling 2 = .ok (.if_icmp .ge 7, 3) := dk_162 0 7 (dk_at dksX1_checkFilling_0 2 rfl rfl)
theorem dX1_checkFilling_5 : decode cX1_checkFilling 5 = .ok (.iconst 1, 1) := dk_4 (dk_at dksX1_checkFilling_0 5 rfl rfl)
theorem dX1_checkFilling_6 : decode cX1_checkFilling 6 = .ok (.goto 4, 3) := dk_167 0 4 (dk_at dksX1_checkFilling_0 6 rfl rfl)
theorem dX1_checkFilling_9 : decode cX1_checkFilling 9 = .ok (.iconst 0, 1) := dk_3 (dk_at dksX1_checkFilling_0 9 rfl rfl)
theorem dX1_checkFilling_10 : decode cX1_checkFilling 10 = .ok (.iconst 5, 1) := dk_8 (dk_at dksX1_checkFilling_0 10 rfl rfl)
theorem dX1_checkFilling_11 : decode cX1_checkFilling 11 = .ok (.iload_n 2, 1) := dk_28 (dk_at dksX1_checkFilling_0 11 rfl rfl)
theorem dX1_checkFilling_12 : decode cX1_checkFilling 12 = .ok (.iload_n 3, 1) := dk_29 (dk_at dksX1_checkFilling_0 12 rfl rfl)
theorem dX1_checkFilling_13 : decode cX1_checkFilling 13 = .ok (.isub, 1) := dk_100 (dk_at dksX1_checkFilling_0 13 rfl rfl)
theorem dX1_checkFilling_14 : decode cX1_checkFilling 14 = .ok (.invokestatic 133, 3) := dk_184 0 133 (dk_at dksX1_checkFilling_0 14 rfl rfl)
theorem dX1_checkFilling_17 : decode cX1_checkFilling 17 = .ok (.aload_n 0, 1) := dk_42 (dk_at dksX1_checkFilling_0 17 rfl rfl)
theorem dX1_checkFilling_18 : decode cX1_checkFilling 18 = .ok (.iload_n 1, 1) := dk_27 (dk_at dksX1_checkFilling_0 18 rfl rfl)
theorem dX1_checkFilling_19 : decode cX1_checkFilling 19 = .ok (.invokevirtual 154, 3) := dk_182 0 154 (dk_at dksX1_checkFilling_0 19 rfl rfl)
theorem dX1_checkFilling_22 : decode cX1_checkFilling 22 = .ok (.iload_n 2, 1) := dk_28 (dk_at dksX1_checkFilling_0 22 rfl rfl)
theorem dX1_checkFilling_23 : decode cX1_checkFilling 23 = .ok (.if_icmp .ge 7, 3) := dk_162 0 7 (dk_at dksX1_checkFilling_1 0 rfl rfl)
theorem dX1_checkFilling_26 : decode cX1_checkFilling 26 = .ok (.iconst 1, 1) := dk_4 (dk_at dksX1_checkFilling_1 3 rfl rfl)
theorem dX1_checkFilling_27 : decode cX1_checkFilling 27 = .ok (.goto 4, 3) := dk_167 0 4 (dk_at dksX1_checkFilling_1 4 rfl rfl)
theorem dX1_checkFilling_30 : decode cX1_checkFilling 30 = .ok (.iconst 0, 1) := dk_3 (dk_at dksX1_checkFilling_1 7 rfl rfl)
theorem dX1_checkFilling_31 : decode cX1_checkFilling 31 = .ok (.bipush 6, 2) := dk_16 6 (dk_at dksX1_checkFilling_1 8 rfl rfl)
theorem dX1_checkFilling_33 : decode cX1_checkFilling 33 = .ok (.aload_n 0, 1) := dk_42 (dk_at dksX1_checkFilling_1 10 rfl rfl)
theorem dX1_checkFilling_34 : decode cX1_checkFilling 34 = .ok (.iload_n 1, 1) := dk_27 (dk_at dksX1_checkFilling_1 11 rfl rfl)
theorem dX1_checkFilling_35 : decode cX1_checkFilling 35 = .ok (.invokevirtual 154, 3) := dk_182 0 154 (dk_at dksX1_checkFilling_1 12 rfl rfl)
theorem dX1_checkFilling_38 : decode cX1_checkFilling 38 = .ok (.invokestatic 133, 3) := dk_184 0 133 (dk_at dksX1_checkFilling_1 15 rfl rfl)
theorem dX1_checkFilling_41 : decode cX1_checkFilling 41 = .ok (.return_, 1) := dk_177 (dk_at dksX1_checkFilling_1 18 rfl rfl)
abbrev cX1_checkEmptying : ByteArray := prog_2_method_14_code
def yX1_checkEmptying : MethodName := ⟨RX1, "checkEmptying", "(LBrushSellers$Seller;III)V"⟩
def dkwX1_checkEmptying_1 : List UInt8 := [184, 0, 133, 29, 28, 96, 17, 0, 200, 164, 0, 7, 4, 167, 0, 4, 3, 16, 16, 29, 184, 0, 133, 177]
abbrev dktX1_checkEmptying_1 : List UInt8 := dkwX1_checkEmptying_1 ++ []
def dkwX1_checkEmptying_0 : List UInt8 := [42, 180, 0, 158, 27, 46, 28, 162, 0, 7, 4, 167, 0, 4, 3, 16, 7, 42, 180, 0, 158, 27, 46]
abbrev dktX1_checkEmptying_0 : List UInt8 := dkwX1_checkEmptying_0 ++ dktX1_checkEmptying_1
theorem dksX1_checkEmptying_0 : cX1_checkEmptying.data.toList.drop 0 = dktX1_checkEmptying_0 := by decide +kernel
theorem dksX1_checkEmptying_1 : cX1_checkEmptying.data.toList.drop 23 = dktX1_checkEmptying_1 := dk_seg dksX1_checkEmptying_0 23 rfl rfl
theorem dX1_checkEmptying_0 : decode cX1_checkEmptying 0 = .ok (.aload_n 0, 1) := dk_42 (dk_at dksX1_checkEmptying_0 0 rfl rfl)
theorem dX1_checkEmptying_1 : decode cX1_checkEmptying 1 = .ok (.getfield 158, 3) := dk_180 0 158 (dk_at dksX1_checkEmptying_0 1 rfl rfl)
theorem dX1_checkEmptying_4 : decode cX1_checkEmptying 4 = .ok (.iload_n 1, 1) := dk_27 (dk_at dksX1_checkEmptying_0 4 rfl rfl)
theorem dX1_checkEmptying_5 : decode cX1_checkEmptying 5 = .ok (.iaload, 1) := dk_46 (dk_at dksX1_checkEmptying_0 5 rfl rfl)
theorem dX1_checkEmptying_6 : decode cX1_checkEmptying 6 = .ok (.iload_n 2, 1) := dk_28 (dk_at dksX1_checkEmptying_0 6 rfl rfl)
theorem dX1_checkEmptying_7 : decode cX1_checkEmptying 7 = .ok (.if_icmp .ge 7, 3) := dk_162 0 7 (dk_at dksX1_checkEmptying_0 7 rfl rfl)
theorem dX1_checkEmptying_10 : decode cX1_checkEmptying 10 = .ok (.iconst 1, 1) := dk_4 (dk_at dksX1_checkEmptying_0 10 rfl rfl)
theorem dX1_checkEmptying_11 : decode cX1_checkEmptying 11 = .ok (.goto 4, 3) := dk_167 0 4 (dk_at dksX1_checkEmptying_0 11 rfl rfl)
theorem dX1_checkEmptying_14 : decode cX1_checkEmptying 14 = .ok (.iconst 0, 1) := dk_3 (dk_at dksX1_checkEmptying_0 14 rfl rfl)
theorem dX1_checkEmptying_15 : decode cX1_checkEmptying 15 = .ok (.bipush 7, 2) := dk_16 7 (dk_at dksX1_checkEmptying_0 15 rfl rfl)
theorem dX1_checkEmptying_17 : decode cX1_checkEmptying 17 = .ok (.aload_n 0, 1) := dk_42 (dk_at dksX1_checkEmptying_0 17 rfl rfl)
theorem dX1_checkEmptying_18 : decode cX1_checkEmptying 18 = .ok (.getfield 158, 3) := dk_180 0 158 (dk_at dksX1_checkEmptying_0 18 rfl rfl)
theorem dX1_checkEmptying_21 : decode cX1_checkEmptying 21 = .ok (.iload_n 1, 1) := dk_27 (dk_at dksX1_checkEmptying_0 21 rfl rfl)
theorem dX1_checkEmptying_22 : decode cX1_checkEmptying 22 = .ok (.iaload, 1) := dk_46 (dk_at dksX1_checkEmptying_0 22 rfl rfl)
theorem dX1_checkEmptying_23 : decode cX1_checkEmptying 23 = .ok (.invokestatic 133, 3) := dk_184 0 133 (dk_at dksX1_checkEmptying_1 0 rfl rfl)
theorem dX1_checkEmptying_26 : decode cX1_checkEmptying 26 = .ok (.iload_n 3, 1) := dk_29 (dk_at dksX1_checkEmptying_1 3 rfl rfl)
theorem dX1_checkEmptying_27 : decode cX1_checkEmptying 27 = .ok (.iload_n 2, 1) := dk_28 (dk_at dksX1_checkEmptying_1 4 rfl rfl)
theorem dX1_checkEmptying_28 : decode cX1_checkEmptying 28 = .ok (.iadd, 1) := dk_96 (dk_at dksX1_checkEmptying_1 5 rfl rfl)
theorem dX1_checkEmptying_29 : decode cX1_checkEmptying 29 = .ok (.sipush 200, 3) := dk_17 0 200 (dk_at dksX1_checkEmptying_1 6 rfl rfl)
theorem dX1_checkEmptying_32 : decode cX1_checkEmptying 32 = .ok (.if_icmp .le 7, 3) := dk_164 0 7 (dk_at dksX1_checkEmptying_1 9 rfl rfl)
theorem dX1_checkEmptying_35 : decode cX1_checkEmptying 35 = .ok (.iconst 1, 1) := dk_4 (dk_at dksX1_checkEmptying_1 12 rfl rfl)
theorem dX1_checkEmptying_36 : decode cX1_checkEmptying 36 = .ok (.goto 4, 3) := dk_167 0 4 (dk_at dksX1_checkEmptying_1 13 rfl rfl)
theorem dX1_checkEmptying_39 : decode cX1_checkEmptying 39 = .ok (.iconst 0, 1) := dk_3 (dk_at dksX1_checkEmptying_1 16 rfl rfl)
theorem dX1_checkEmptying_40 : decode cX1_checkEmptying 40 = .ok (.bipush 16, 2) := dk_16 16 (dk_at dksX1_checkEmptying_1 17 rfl rfl)
theorem dX1_checkEmptying_42 : decode cX1_checkEmptying 42 = .ok (.iload_n 3, 1) := dk_29 (dk_at dksX1_checkEmptying_1 19 rfl rfl)
theorem dX1_checkEmptying_43 : decode cX1_checkEmptying 43 = .ok (.invokestatic 133, 3) := dk_184 0 133 (dk_at dksX1_checkEmptying_1 20 rfl rfl)
theorem dX1_checkEmptying_46 : decode cX1_checkEmptying 46 = .ok (.return_, 1) := dk_177 (dk_at dksX1_checkEmptying_1 23 rfl rfl)
abbrev cX1_goes : ByteArray := prog_2_method_16_code
def yX1_goes : MethodName := ⟨RX1, "goes", "(II)I"⟩
def dkwX1_goes_2 : List UInt8 := [181, 0, 103, 45, 180, 0, 183, 172]
abbrev dktX1_goes_2 : List UInt8 := dkwX1_goes_2 ++ []
def dkwX1_goes_1 : List UInt8 := [182, 0, 174, 42, 21, 4, 182, 0, 177, 45, 28, 182, 0, 180, 42, 89, 180, 0, 103, 21, 4, 96]
abbrev dktX1_goes_1 : List UInt8 := dkwX1_goes_1 ++ dktX1_goes_2
def dkwX1_goes_0 : List UInt8 := [42, 180, 0, 20, 27, 182, 0, 49, 192, 0, 75, 78, 45, 28, 182, 0, 172, 54, 4, 45, 21, 4]
abbrev dktX1_goes_0 : List UInt8 := dkwX1_goes_0 ++ dktX1_goes_1
theorem dksX1_goes_0 : cX1_goes.data.toList.drop 0 = dktX1_goes_0 := by decide +kernel
theorem dksX1_goes_1 : cX1_goes.data.toList.drop 22 = dktX1_goes_1 := dk_seg dksX1_goes_0 22 rfl rfl
theorem dksX1_goes_2 : cX1_goes.data.toList.drop 44 = dktX1_goes_2 := dk_seg dksX1_goes_1 22 rfl rfl
theorem dX1_goes_0 : decode cX1_goes 0 = .ok (.aload_n 0, 1) := dk_42 (dk_at dksX1_goes_0 0 rfl rfl)
theorem dX1_goes_1 : decode cX1_goes 1 = .ok (.getfield 20, 3) := dk_180 0 20 (dk_at dksX1_goes_0 1 rfl rfl)
theorem dX1_goes_4 : decode cX1_goes 4 = .ok (.iload_n 1, 1) := dk_27 (dk_at dksX1_goes_0 4 rfl rfl)
theorem dX1_goes_5 : decode cX1_goes 5 = .ok (.invokevirtual 49, 3) := dk_182 0 49 (dk_at dksX1_goes_0 5 rfl rfl)
theorem dX1_goes_8 : decode cX1_goes 8 = .ok (.checkcast 75, 3) := dk_192 0 75 (dk_at dksX1_goes_0 8 rfl rfl)
theorem dX1_goes_11 : decode cX1_goes 11 = .ok (.astore_n 3, 1) := dk_78 (dk_at dksX1_goes_0 11 rfl rfl)
theorem dX1_goes_12 : decode cX1_goes 12 = .ok (.aload_n 3, 1) := dk_45 (dk_at dksX1_goes_0 12 rfl rfl)
theorem dX1_goes_13 : decode cX1_goes 13 = .ok (.iload_n 2, 1) := dk_28 (dk_at dksX1_goes_0 13 rfl rfl)
theorem dX1_goes_14 : decode cX1_goes 14 = .ok (.invokevirtual 172, 3) := dk_182 0 172 (dk_at dksX1_goes_0 14 rfl rfl)
theorem dX1_goes_17 : decode cX1_goes 17 = .ok (.istore 4, 2) := dk_54 4 (dk_at dksX1_goes_0 17 rfl rfl)
theorem dX1_goes_19 : decode cX1_goes 19 = .ok (.aload_n 3, 1) := dk_45 (dk_at dksX1_goes_0 19 rfl rfl)
theorem dX1_goes_20 : decode cX1_goes 20 = .ok (.iload 4, 2) := dk_21 4 (dk_at dksX1_goes_0 20 rfl rfl)
theorem dX1_goes_22 : decode cX1_goes 22 = .ok (.invokevirtual 174, 3) := dk_182 0 174 (dk_at dksX1_goes_1 0 rfl rfl)
theorem dX1_goes_25 : decode cX1_goes 25 = .ok (.aload_n 0, 1) := dk_42 (dk_at dksX1_goes_1 3 rfl rfl)
theorem dX1_goes_26 : decode cX1_goes 26 = .ok (.iload 4, 2) := dk_21 4 (dk_at dksX1_goes_1 4 rfl rfl)
theorem dX1_goes_28 : decode cX1_goes 28 = .ok (.invokevirtual 177, 3) := dk_182 0 177 (dk_at dksX1_goes_1 6 rfl rfl)
theorem dX1_goes_31 : decode cX1_goes 31 = .ok (.aload_n 3, 1) := dk_45 (dk_at dksX1_goes_1 9 rfl rfl)
theorem dX1_goes_32 : decode cX1_goes 32 = .ok (.iload_n 2, 1) := dk_28 (dk_at dksX1_goes_1 10 rfl rfl)
theorem dX1_goes_33 : decode cX1_goes 33 = .ok (.invokevirtual 180, 3) := dk_182 0 180 (dk_at dksX1_goes_1 11 rfl rfl)
theorem dX1_goes_36 : decode cX1_goes 36 = .ok (.aload_n 0, 1) := dk_42 (dk_at dksX1_goes_1 14 rfl rfl)
theorem dX1_goes_37 : decode cX1_goes 37 = .ok (.dup, 1) := dk_89 (dk_at dksX1_goes_1 15 rfl rfl)
theorem dX1_goes_38 : decode cX1_goes 38 = .ok (.getfield 103, 3) := dk_180 0 103 (dk_at dksX1_goes_1 16 rfl rfl)
theorem dX1_goes_41 : decode cX1_goes 41 = .ok (.iload 4, 2) := dk_21 4 (dk_at dksX1_goes_1 19 rfl rfl)
theorem dX1_goes_43 : decode cX1_goes 43 = .ok (.iadd, 1) := dk_96 (dk_at dksX1_goes_1 21 rfl rfl)
theorem dX1_goes_44 : decode cX1_goes 44 = .ok (.putfield 103, 3) := dk_181 0 103 (dk_at dksX1_goes_2 0 rfl rfl)
theorem dX1_goes_47 : decode cX1_goes 47 = .ok (.aload_n 3, 1) := dk_45 (dk_at dksX1_goes_2 3 rfl rfl)
theorem dX1_goes_48 : decode cX1_goes 48 = .ok (.getfield 183, 3) := dk_180 0 183 (dk_at dksX1_goes_2 4 rfl rfl)
theorem dX1_goes_51 : decode cX1_goes 51 = .ok (.ireturn, 1) := dk_172 (dk_at dksX1_goes_2 7 rfl rfl)
abbrev cX1_checkMinutes : ByteArray := prog_2_method_7_code
def yX1_checkMinutes : MethodName := ⟨RX1, "checkMinutes", "(I)V"⟩
def dkwX1_checkMinutes_1 : List UInt8 := [180, 0, 103, 100, 184, 0, 133, 177]
abbrev dktX1_checkMinutes_1 : List UInt8 := dkwX1_checkMinutes_1 ++ []
def dkwX1_checkMinutes_0 : List UInt8 := [42, 180, 0, 103, 27, 96, 17, 1, 224, 164, 0, 7, 4, 167, 0, 4, 3, 6, 17, 1, 224, 42]
abbrev dktX1_checkMinutes_0 : List UInt8 := dkwX1_checkMinutes_0 ++ dktX1_checkMinutes_1
theorem dksX1_checkMinutes_0 : cX1_checkMinutes.data.toList.drop 0 = dktX1_checkMinutes_0 := by decide +kernel
theorem dksX1_checkMinutes_1 : cX1_checkMinutes.data.toList.drop 22 = dktX1_checkMinutes_1 := dk_seg dksX1_checkMinutes_0 22 rfl rfl
theorem dX1_checkMinutes_0 : decode cX1_checkMinutes 0 = .ok (.aload_n 0, 1) := dk_42 (dk_at dksX1_checkMinutes_0 0 rfl rfl)
theorem dX1_checkMinutes_1 : decode cX1_checkMinutes 1 = .ok (.getfield 103, 3) := dk_180 0 103 (dk_at dksX1_checkMinutes_0 1 rfl rfl)
theorem dX1_checkMinutes_4 : decode cX1_checkMinutes 4 = .ok (.iload_n 1, 1) := dk_27 (dk_at dksX1_checkMinutes_0 4 rfl rfl)
theorem dX1_checkMinutes_5 : decode cX1_checkMinutes 5 = .ok (.iadd, 1) := dk_96 (dk_at dksX1_checkMinutes_0 5 rfl rfl)
theorem dX1_checkMinutes_6 : decode cX1_checkMinutes 6 = .ok (.sipush 480, 3) := dk_17 1 224 (dk_at dksX1_checkMinutes_0 6 rfl rfl)
theorem dX1_checkMinutes_9 : decode cX1_checkMinutes 9 = .ok (.if_icmp .le 7, 3) := dk_164 0 7 (dk_at dksX1_checkMinutes_0 9 rfl rfl)
theorem dX1_checkMinutes_12 : decode cX1_checkMinutes 12 = .ok (.iconst 1, 1) := dk_4 (dk_at dksX1_checkMinutes_0 12 rfl rfl)
theorem dX1_checkMinutes_13 : decode cX1_checkMinutes 13 = .ok (.goto 4, 3) := dk_167 0 4 (dk_at dksX1_checkMinutes_0 13 rfl rfl)
theorem dX1_checkMinutes_16 : decode cX1_checkMinutes 16 = .ok (.iconst 0, 1) := dk_3 (dk_at dksX1_checkMinutes_0 16 rfl rfl)
theorem dX1_checkMinutes_17 : decode cX1_checkMinutes 17 = .ok (.iconst 3, 1) := dk_6 (dk_at dksX1_checkMinutes_0 17 rfl rfl)
theorem dX1_checkMinutes_18 : decode cX1_checkMinutes 18 = .ok (.sipush 480, 3) := dk_17 1 224 (dk_at dksX1_checkMinutes_0 18 rfl rfl)
theorem dX1_checkMinutes_21 : decode cX1_checkMinutes 21 = .ok (.aload_n 0, 1) := dk_42 (dk_at dksX1_checkMinutes_0 21 rfl rfl)
theorem dX1_checkMinutes_22 : decode cX1_checkMinutes 22 = .ok (.getfield 103, 3) := dk_180 0 103 (dk_at dksX1_checkMinutes_1 0 rfl rfl)
theorem dX1_checkMinutes_25 : decode cX1_checkMinutes 25 = .ok (.isub, 1) := dk_100 (dk_at dksX1_checkMinutes_1 3 rfl rfl)
theorem dX1_checkMinutes_26 : decode cX1_checkMinutes 26 = .ok (.invokestatic 133, 3) := dk_184 0 133 (dk_at dksX1_checkMinutes_1 4 rfl rfl)
theorem dX1_checkMinutes_29 : decode cX1_checkMinutes 29 = .ok (.return_, 1) := dk_177 (dk_at dksX1_checkMinutes_1 7 rfl rfl)
abbrev cX1_soles : ByteArray := prog_2_method_17_code
def yX1_soles : MethodName := ⟨RX1, "soles", "(I)I"⟩
def dkwX1_soles_1 : List UInt8 := [180, 0, 112, 16, 6, 96, 181, 0, 112, 44, 180, 0, 183, 62, 44, 3, 181, 0, 183, 29, 172]
abbrev dktX1_soles_1 : List UInt8 := dkwX1_soles_1 ++ []
def dkwX1_soles_0 : List UInt8 := [42, 180, 0, 20, 27, 182, 0, 49, 192, 0, 75, 77, 44, 184, 0, 161, 42, 16, 6, 182, 0, 151, 42, 89]
abbrev dktX1_soles_0 : List UInt8 := dkwX1_soles_0 ++ dktX1_soles_1
theorem dksX1_soles_0 : cX1_soles.data.toList.drop 0 = dktX1_soles_0 := by decide +kernel
theorem dksX1_soles_1 : cX1_soles.data.toList.drop 24 = dktX1_soles_1 := dk_seg dksX1_soles_0 24 rfl rfl
theorem dX1_soles_0 : decode cX1_soles 0 = .ok (.aload_n 0, 1) := dk_42 (dk_at dksX1_soles_0 0 rfl rfl)
theorem dX1_soles_1 : decode cX1_soles 1 = .ok (.getfield 20, 3) := dk_180 0 20 (dk_at dksX1_soles_0 1 rfl rfl)
theorem dX1_soles_4 : decode cX1_soles 4 = .ok (.iload_n 1, 1) := dk_27 (dk_at dksX1_soles_0 4 rfl rfl)
theorem dX1_soles_5 : decode cX1_soles 5 = .ok (.invokevirtual 49, 3) := dk_182 0 49 (dk_at dksX1_soles_0 5 rfl rfl)
theorem dX1_soles_8 : decode cX1_soles 8 = .ok (.checkcast 75, 3) := dk_192 0 75 (dk_at dksX1_soles_0 8 rfl rfl)
theorem dX1_soles_11 : decode cX1_soles 11 = .ok (.astore_n 2, 1) := dk_77 (dk_at dksX1_soles_0 11 rfl rfl)
theorem dX1_soles_12 : decode cX1_soles 12 = .ok (.aload_n 2, 1) := dk_44 (dk_at dksX1_soles_0 12 rfl rfl)
theorem dX1_soles_13 : decode cX1_soles 13 = .ok (.invokestatic 161, 3) := dk_184 0 161 (dk_at dksX1_soles_0 13 rfl rfl)
theorem dX1_soles_16 : decode cX1_soles 16 = .ok (.aload_n 0, 1) := dk_42 (dk_at dksX1_soles_0 16 rfl rfl)
theorem dX1_soles_17 : decode cX1_soles 17 = .ok (.bipush 6, 2) := dk_16 6 (dk_at dksX1_soles_0 17 rfl rfl)
theorem dX1_soles_19 : decode cX1_soles 19 = .ok (.invokevirtual 151, 3) := dk_182 0 151 (dk_at dksX1_soles_0 19 rfl rfl)
theorem dX1_soles_22 : decode cX1_soles 22 = .ok (.aload_n 0, 1) := dk_42 (dk_at dksX1_soles_0 22 rfl rfl)
theorem dX1_soles_23 : decode cX1_soles 23 = .ok (.dup, 1) := dk_89 (dk_at dksX1_soles_0 23 rfl rfl)
theorem dX1_soles_24 : decode cX1_soles 24 = .ok (.getfield 112, 3) := dk_180 0 112 (dk_at dksX1_soles_1 0 rfl rfl)
theorem dX1_soles_27 : decode cX1_soles 27 = .ok (.bipush 6, 2) := dk_16 6 (dk_at dksX1_soles_1 3 rfl rfl)
theorem dX1_soles_29 : decode cX1_soles 29 = .ok (.iadd, 1) := dk_96 (dk_at dksX1_soles_1 5 rfl rfl)
theorem dX1_soles_30 : decode cX1_soles 30 = .ok (.putfield 112, 3) := dk_181 0 112 (dk_at dksX1_soles_1 6 rfl rfl)
theorem dX1_soles_33 : decode cX1_soles 33 = .ok (.aload_n 2, 1) := dk_44 (dk_at dksX1_soles_1 9 rfl rfl)
theorem dX1_soles_34 : decode cX1_soles 34 = .ok (.getfield 183, 3) := dk_180 0 183 (dk_at dksX1_soles_1 10 rfl rfl)
theorem dX1_soles_37 : decode cX1_soles 37 = .ok (.istore_n 3, 1) := dk_62 (dk_at dksX1_soles_1 13 rfl rfl)
theorem dX1_soles_38 : decode cX1_soles 38 = .ok (.aload_n 2, 1) := dk_44 (dk_at dksX1_soles_1 14 rfl rfl)
theorem dX1_soles_39 : decode cX1_soles 39 = .ok (.iconst 0, 1) := dk_3 (dk_at dksX1_soles_1 15 rfl rfl)
theorem dX1_soles_40 : decode cX1_soles 40 = .ok (.putfield 183, 3) := dk_181 0 183 (dk_at dksX1_soles_1 16 rfl rfl)
theorem dX1_soles_43 : decode cX1_soles 43 = .ok (.iload_n 3, 1) := dk_29 (dk_at dksX1_soles_1 19 rfl rfl)
theorem dX1_soles_44 : decode cX1_soles 44 = .ok (.ireturn, 1) := dk_172 (dk_at dksX1_soles_1 20 rfl rfl)
abbrev cX1_pets : ByteArray := prog_2_method_18_code
def yX1_pets : MethodName := ⟨RX1, "pets", "(I)I"⟩
def dkwX1_pets_4 : List UInt8 := [16, 9, 181, 0, 145, 42, 89, 180, 0, 121, 4, 96, 181, 0, 121, 45, 180, 0, 145, 172]
abbrev dktX1_pets_4 : List UInt8 := dkwX1_pets_4 ++ []
def dkwX1_pets_3 : List UInt8 := [45, 180, 0, 145, 172, 44, 16, 10, 182, 0, 174, 44, 89, 180, 0, 183, 16, 10, 96, 181, 0, 183, 45]
abbrev dktX1_pets_3 : List UInt8 := dkwX1_pets_3 ++ dktX1_pets_4
def dkwX1_pets_2 : List UInt8 := [184, 0, 133, 45, 182, 0, 189, 154, 0, 22, 45, 3, 45, 180, 0, 145, 5, 100, 184, 0, 192, 181, 0, 145]
abbrev dktX1_pets_2 : List UInt8 := dkwX1_pets_2 ++ dktX1_pets_3
def dkwX1_pets_1 : List UInt8 := [192, 0, 38, 78, 45, 180, 0, 145, 16, 241, 160, 0, 7, 4, 167, 0, 4, 3, 16, 10, 45, 180, 0, 186]
abbrev dktX1_pets_1 : List UInt8 := dkwX1_pets_1 ++ dktX1_pets_2
def dkwX1_pets_0 : List UInt8 := [42, 180, 0, 20, 27, 182, 0, 49, 192, 0, 75, 77, 42, 180, 0, 14, 44, 180, 0, 141, 182, 0, 49]
abbrev dktX1_pets_0 : List UInt8 := dkwX1_pets_0 ++ dktX1_pets_1
theorem dksX1_pets_0 : cX1_pets.data.toList.drop 0 = dktX1_pets_0 := by decide +kernel
theorem dksX1_pets_1 : cX1_pets.data.toList.drop 23 = dktX1_pets_1 := dk_seg dksX1_pets_0 23 rfl rfl
theorem dksX1_pets_2 : cX1_pets.data.toList.drop 47 = dktX1_pets_2 := dk_seg dksX1_pets_1 24 rfl rfl
theorem dksX1_pets_3 : cX1_pets.data.toList.drop 71 = dktX1_pets_3 := dk_seg dksX1_pets_2 24 rfl rfl
theorem dksX1_pets_4 : cX1_pets.data.toList.drop 94 = dktX1_pets_4 := dk_seg dksX1_pets_3 23 rfl rfl
theorem dX1_pets_0 : decode cX1_pets 0 = .ok (.aload_n 0, 1) := dk_42 (dk_at dksX1_pets_0 0 rfl rfl)
theorem dX1_pets_1 : decode cX1_pets 1 = .ok (.getfield 20, 3) := dk_180 0 20 (dk_at dksX1_pets_0 1 rfl rfl)
theorem dX1_pets_4 : decode cX1_pets 4 = .ok (.iload_n 1, 1) := dk_27 (dk_at dksX1_pets_0 4 rfl rfl)
theorem dX1_pets_5 : decode cX1_pets 5 = .ok (.invokevirtual 49, 3) := dk_182 0 49 (dk_at dksX1_pets_0 5 rfl rfl)
theorem dX1_pets_8 : decode cX1_pets 8 = .ok (.checkcast 75, 3) := dk_192 0 75 (dk_at dksX1_pets_0 8 rfl rfl)
theorem dX1_pets_11 : decode cX1_pets 11 = .ok (.astore_n 2, 1) := dk_77 (dk_at dksX1_pets_0 11 rfl rfl)
theorem dX1_pets_12 : decode cX1_pets 12 = .ok (.aload_n 0, 1) := dk_42 (dk_at dksX1_pets_0 12 rfl rfl)
theorem dX1_pets_13 : decode cX1_pets 13 = .ok (.getfield 14, 3) := dk_180 0 14 (dk_at dksX1_pets_0 13 rfl rfl)
theorem dX1_pets_16 : decode cX1_pets 16 = .ok (.aload_n 2, 1) := dk_44 (dk_at dksX1_pets_0 16 rfl rfl)
theorem dX1_pets_17 : decode cX1_pets 17 = .ok (.getfield 141, 3) := dk_180 0 141 (dk_at dksX1_pets_0 17 rfl rfl)
theorem dX1_pets_20 : decode cX1_pets 20 = .ok (.invokevirtual 49, 3) := dk_182 0 49 (dk_at dksX1_pets_0 20 rfl rfl)
theorem dX1_pets_23 : decode cX1_pets 23 = .ok (.checkcast 38, 3) := dk_192 0 38 (dk_at dksX1_pets_1 0 rfl rfl)
theorem dX1_pets_26 : decode cX1_pets 26 = .ok (.astore_n 3, 1) := dk_78 (dk_at dksX1_pets_1 3 rfl rfl)
theorem dX1_pets_27 : decode cX1_pets 27 = .ok (.aload_n 3, 1) := dk_45 (dk_at dksX1_pets_1 4 rfl rfl)
theorem dX1_pets_28 : decode cX1_pets 28 = .ok (.getfield 145, 3) := dk_180 0 145 (dk_at dksX1_pets_1 5 rfl rfl)
theorem dX1_pets_31 : decode cX1_pets 31 = .ok (.bipush (-15), 2) := dk_16 241 (dk_at dksX1_pets_1 8 rfl rfl)
theorem dX1_pets_33 : decode cX1_pets 33 = .ok (.if_icmp .ne 7, 3) := dk_160 0 7 (dk_at dksX1_pets_1 10 rfl rfl)
theorem dX1_pets_36 : decode cX1_pets 36 = .ok (.iconst 1, 1) := dk_4 (dk_at dksX1_pets_1 13 rfl rfl)
theorem dX1_pets_37 : decode cX1_pets 37 = .ok (.goto 4, 3) := dk_167 0 4 (dk_at dksX1_pets_1 14 rfl rfl)
theorem dX1_pets_40 : decode cX1_pets 40 = .ok (.iconst 0, 1) := dk_3 (dk_at dksX1_pets_1 17 rfl rfl)
theorem dX1_pets_41 : decode cX1_pets 41 = .ok (.bipush 10, 2) := dk_16 10 (dk_at dksX1_pets_1 18 rfl rfl)
theorem dX1_pets_43 : decode cX1_pets 43 = .ok (.aload_n 3, 1) := dk_45 (dk_at dksX1_pets_1 20 rfl rfl)
theorem dX1_pets_44 : decode cX1_pets 44 = .ok (.getfield 186, 3) := dk_180 0 186 (dk_at dksX1_pets_1 21 rfl rfl)
theorem dX1_pets_47 : decode cX1_pets 47 = .ok (.invokestatic 133, 3) := dk_184 0 133 (dk_at dksX1_pets_2 0 rfl rfl)
theorem dX1_pets_50 : decode cX1_pets 50 = .ok (.aload_n 3, 1) := dk_45 (dk_at dksX1_pets_2 3 rfl rfl)
theorem dX1_pets_51 : decode cX1_pets 51 = .ok (.invokevirtual 189, 3) := dk_182 0 189 (dk_at dksX1_pets_2 4 rfl rfl)
theorem dX1_pets_54 : decode cX1_pets 54 = .ok (.ifCond .ne 22, 3) := dk_154 0 22 (dk_at dksX1_pets_2 7 rfl rfl)
theorem dX1_pets_57 : decode cX1_pets 57 = .ok (.aload_n 3, 1) := dk_45 (dk_at dksX1_pets_2 10 rfl rfl)
theorem dX1_pets_58 : decode cX1_pets 58 = .ok (.iconst 0, 1) := dk_3 (dk_at dksX1_pets_2 11 rfl rfl)
theorem dX1_pets_59 : decode cX1_pets 59 = .ok (.aload_n 3, 1) := dk_45 (dk_at dksX1_pets_2 12 rfl rfl)
theorem dX1_pets_60 : decode cX1_pets 60 = .ok (.getfield 145, 3) := dk_180 0 145 (dk_at dksX1_pets_2 13 rfl rfl)
theorem dX1_pets_63 : decode cX1_pets 63 = .ok (.iconst 2, 1) := dk_5 (dk_at dksX1_pets_2 16 rfl rfl)
theorem dX1_pets_64 : decode cX1_pets 64 = .ok (.isub, 1) := dk_100 (dk_at dksX1_pets_2 17 rfl rfl)
theorem dX1_pets_65 : decode cX1_pets 65 = .ok (.invokestatic 192, 3) := dk_184 0 192 (dk_at dksX1_pets_2 18 rfl rfl)
theorem dX1_pets_68 : decode cX1_pets 68 = .ok (.putfield 145, 3) := dk_181 0 145 (dk_at dksX1_pets_2 21 rfl rfl)
theorem dX1_pets_71 : decode cX1_pets 71 = .ok (.aload_n 3, 1) := dk_45 (dk_at dksX1_pets_3 0 rfl rfl)
theorem dX1_pets_72 : decode cX1_pets 72 = .ok (.getfield 145, 3) := dk_180 0 145 (dk_at dksX1_pets_3 1 rfl rfl)
theorem dX1_pets_75 : decode cX1_pets 75 = .ok (.ireturn, 1) := dk_172 (dk_at dksX1_pets_3 4 rfl rfl)
theorem dX1_pets_76 : decode cX1_pets 76 = .ok (.aload_n 2, 1) := dk_44 (dk_at dksX1_pets_3 5 rfl rfl)
theorem dX1_pets_77 : decode cX1_pets 77 = .ok (.bipush 10, 2) := dk_16 10 (dk_at dksX1_pets_3 6 rfl rfl)
theorem dX1_pets_79 : decode cX1_pets 79 = .ok (.invokevirtual 174, 3) := dk_182 0 174 (dk_at dksX1_pets_3 8 rfl rfl)
theorem dX1_pets_82 : decode cX1_pets 82 = .ok (.aload_n 2, 1) := dk_44 (dk_at dksX1_pets_3 11 rfl rfl)
theorem dX1_pets_83 : decode cX1_pets 83 = .ok (.dup, 1) := dk_89 (dk_at dksX1_pets_3 12 rfl rfl)
theorem dX1_pets_84 : decode cX1_pets 84 = .ok (.getfield 183, 3) := dk_180 0 183 (dk_at dksX1_pets_3 13 rfl rfl)
theorem dX1_pets_87 : decode cX1_pets 87 = .ok (.bipush 10, 2) := dk_16 10 (dk_at dksX1_pets_3 16 rfl rfl)
theorem dX1_pets_89 : decode cX1_pets 89 = .ok (.iadd, 1) := dk_96 (dk_at dksX1_pets_3 18 rfl rfl)
theorem dX1_pets_90 : decode cX1_pets 90 = .ok (.putfield 183, 3) := dk_181 0 183 (dk_at dksX1_pets_3 19 rfl rfl)
theorem dX1_pets_93 : decode cX1_pets 93 = .ok (.aload_n 3, 1) := dk_45 (dk_at dksX1_pets_3 22 rfl rfl)
theorem dX1_pets_94 : decode cX1_pets 94 = .ok (.bipush 9, 2) := dk_16 9 (dk_at dksX1_pets_4 0 rfl rfl)
theorem dX1_pets_96 : decode cX1_pets 96 = .ok (.putfield 145, 3) := dk_181 0 145 (dk_at dksX1_pets_4 2 rfl rfl)
theorem dX1_pets_99 : decode cX1_pets 99 = .ok (.aload_n 0, 1) := dk_42 (dk_at dksX1_pets_4 5 rfl rfl)
theorem dX1_pets_100 : decode cX1_pets 100 = .ok (.dup, 1) := dk_89 (dk_at dksX1_pets_4 6 rfl rfl)
theorem dX1_pets_101 : decode cX1_pets 101 = .ok (.getfield 121, 3) := dk_180 0 121 (dk_at dksX1_pets_4 7 rfl rfl)
theorem dX1_pets_104 : decode cX1_pets 104 = .ok (.iconst 1, 1) := dk_4 (dk_at dksX1_pets_4 10 rfl rfl)
theorem dX1_pets_105 : decode cX1_pets 105 = .ok (.iadd, 1) := dk_96 (dk_at dksX1_pets_4 11 rfl rfl)
theorem dX1_pets_106 : decode cX1_pets 106 = .ok (.putfield 121, 3) := dk_181 0 121 (dk_at dksX1_pets_4 12 rfl rfl)
theorem dX1_pets_109 : decode cX1_pets 109 = .ok (.aload_n 3, 1) := dk_45 (dk_at dksX1_pets_4 15 rfl rfl)
theorem dX1_pets_110 : decode cX1_pets 110 = .ok (.getfield 145, 3) := dk_180 0 145 (dk_at dksX1_pets_4 16 rfl rfl)
theorem dX1_pets_113 : decode cX1_pets 113 = .ok (.ireturn, 1) := dk_172 (dk_at dksX1_pets_4 19 rfl rfl)
abbrev cX1_would : ByteArray := prog_2_method_19_code
def yX1_would : MethodName := ⟨RX1, "would", "(LBrushSellers$Seller;LBrushSellers$House;II)I"⟩
def dkwX1_would_1 : List UInt8 := [184, 0, 207, 167, 0, 4, 3, 172]
abbrev dktX1_would_1 : List UInt8 := dkwX1_would_1 ++ []
def dkwX1_would_0 : List UInt8 := [44, 43, 180, 0, 198, 182, 0, 201, 153, 0, 22, 43, 180, 0, 158, 29, 46, 44, 29, 21, 4, 182, 0, 204]
abbrev dktX1_would_0 : List UInt8 := dkwX1_would_0 ++ dktX1_would_1
theorem dksX1_would_0 : cX1_would.data.toList.drop 0 = dktX1_would_0 := by decide +kernel
theorem dksX1_would_1 : cX1_would.data.toList.drop 24 = dktX1_would_1 := dk_seg dksX1_would_0 24 rfl rfl
theorem dX1_would_0 : decode cX1_would 0 = .ok (.aload_n 2, 1) := dk_44 (dk_at dksX1_would_0 0 rfl rfl)
theorem dX1_would_1 : decode cX1_would 1 = .ok (.aload_n 1, 1) := dk_43 (dk_at dksX1_would_0 1 rfl rfl)
theorem dX1_would_2 : decode cX1_would 2 = .ok (.getfield 198, 3) := dk_180 0 198 (dk_at dksX1_would_0 2 rfl rfl)
theorem dX1_would_5 : decode cX1_would 5 = .ok (.invokevirtual 201, 3) := dk_182 0 201 (dk_at dksX1_would_0 5 rfl rfl)
theorem dX1_would_8 : decode cX1_would 8 = .ok (.ifCond .eq 22, 3) := dk_153 0 22 (dk_at dksX1_would_0 8 rfl rfl)
theorem dX1_would_11 : decode cX1_would 11 = .ok (.aload_n 1, 1) := dk_43 (dk_at dksX1_would_0 11 rfl rfl)
theorem dX1_would_12 : decode cX1_would 12 = .ok (.getfield 158, 3) := dk_180 0 158 (dk_at dksX1_would_0 12 rfl rfl)
theorem dX1_would_15 : decode cX1_would 15 = .ok (.iload_n 3, 1) := dk_29 (dk_at dksX1_would_0 15 rfl rfl)
theorem dX1_would_16 : decode cX1_would 16 = .ok (.iaload, 1) := dk_46 (dk_at dksX1_would_0 16 rfl rfl)
theorem dX1_would_17 : decode cX1_would 17 = .ok (.aload_n 2, 1) := dk_44 (dk_at dksX1_would_0 17 rfl rfl)
theorem dX1_would_18 : decode cX1_would 18 = .ok (.iload_n 3, 1) := dk_29 (dk_at dksX1_would_0 18 rfl rfl)
theorem dX1_would_19 : decode cX1_would 19 = .ok (.iload 4, 2) := dk_21 4 (dk_at dksX1_would_0 19 rfl rfl)
theorem dX1_would_21 : decode cX1_would 21 = .ok (.invokevirtual 204, 3) := dk_182 0 204 (dk_at dksX1_would_0 21 rfl rfl)
theorem dX1_would_24 : decode cX1_would 24 = .ok (.invokestatic 207, 3) := dk_184 0 207 (dk_at dksX1_would_1 0 rfl rfl)
theorem dX1_would_27 : decode cX1_would 27 = .ok (.goto 4, 3) := dk_167 0 4 (dk_at dksX1_would_1 3 rfl rfl)
theorem dX1_would_30 : decode cX1_would 30 = .ok (.iconst 0, 1) := dk_3 (dk_at dksX1_would_1 6 rfl rfl)
theorem dX1_would_31 : decode cX1_would 31 = .ok (.ireturn, 1) := dk_172 (dk_at dksX1_would_1 7 rfl rfl)
abbrev cX1_bestHouse : ByteArray := prog_2_method_20_code
def yX1_bestHouse : MethodName := ⟨RX1, "bestHouse", "(LBrushSellers$Seller;II)I"⟩
def dkwX1_bestHouse_5 : List UInt8 := [54, 4, 21, 8, 54, 5, 167, 255, 151, 21, 4, 172]
abbrev dktX1_bestHouse_5 : List UInt8 := dkwX1_bestHouse_5 ++ []
def dkwX1_bestHouse_4 : List UInt8 := [167, 0, 4, 3, 54, 9, 21, 8, 21, 5, 163, 0, 8, 21, 9, 153, 0, 14, 25, 7, 180, 0, 186]
abbrev dktX1_bestHouse_4 : List UInt8 := dkwX1_bestHouse_4 ++ dktX1_bestHouse_5
def dkwX1_bestHouse_3 : List UInt8 := [160, 0, 25, 43, 25, 7, 180, 0, 186, 182, 0, 172, 43, 21, 4, 182, 0, 172, 162, 0, 7, 4]
abbrev dktX1_bestHouse_3 : List UInt8 := dkwX1_bestHouse_3 ++ dktX1_bestHouse_4
def dkwX1_bestHouse_2 : List UInt8 := [167, 0, 12, 42, 43, 25, 7, 28, 29, 182, 0, 210, 54, 8, 21, 8, 158, 0, 32, 21, 8, 21, 5]
abbrev dktX1_bestHouse_2 : List UInt8 := dkwX1_bestHouse_2 ++ dktX1_bestHouse_3
def dkwX1_bestHouse_1 : List UInt8 := [153, 0, 101, 25, 6, 185, 0, 71, 1, 0, 192, 0, 38, 58, 7, 25, 7, 182, 0, 189, 153, 0, 7, 3]
abbrev dktX1_bestHouse_1 : List UInt8 := dkwX1_bestHouse_1 ++ dktX1_bestHouse_2
def dkwX1_bestHouse_0 : List UInt8 := [16, 241, 54, 4, 3, 54, 5, 42, 180, 0, 14, 182, 0, 61, 58, 6, 25, 6, 185, 0, 65, 1, 0]
abbrev dktX1_bestHouse_0 : List UInt8 := dkwX1_bestHouse_0 ++ dktX1_bestHouse_1
theorem dksX1_bestHouse_0 : cX1_bestHouse.data.toList.drop 0 = dktX1_bestHouse_0 := by decide +kernel
theorem dksX1_bestHouse_1 : cX1_bestHouse.data.toList.drop 23 = dktX1_bestHouse_1 := dk_seg dksX1_bestHouse_0 23 rfl rfl
theorem dksX1_bestHouse_2 : cX1_bestHouse.data.toList.drop 47 = dktX1_bestHouse_2 := dk_seg dksX1_bestHouse_1 24 rfl rfl
theorem dksX1_bestHouse_3 : cX1_bestHouse.data.toList.drop 70 = dktX1_bestHouse_3 := dk_seg dksX1_bestHouse_2 23 rfl rfl
theorem dksX1_bestHouse_4 : cX1_bestHouse.data.toList.drop 92 = dktX1_bestHouse_4 := dk_seg dksX1_bestHouse_3 22 rfl rfl
theorem dksX1_bestHouse_5 : cX1_bestHouse.data.toList.drop 115 = dktX1_bestHouse_5 := dk_seg dksX1_bestHouse_4 23 rfl rfl
theorem dX1_bestHouse_0 : decode cX1_bestHouse 0 = .ok (.bipush (-15), 2) := dk_16 241 (dk_at dksX1_bestHouse_0 0 rfl rfl)
theorem dX1_bestHouse_2 : decode cX1_bestHouse 2 = .ok (.istore 4, 2) := dk_54 4 (dk_at dksX1_bestHouse_0 2 rfl rfl)
theorem dX1_bestHouse_4 : decode cX1_bestHouse 4 = .ok (.iconst 0, 1) := dk_3 (dk_at dksX1_bestHouse_0 4 rfl rfl)
theorem dX1_bestHouse_5 : decode cX1_bestHouse 5 = .ok (.istore 5, 2) := dk_54 5 (dk_at dksX1_bestHouse_0 5 rfl rfl)
theorem dX1_bestHouse_7 : decode cX1_bestHouse 7 = .ok (.aload_n 0, 1) := dk_42 (dk_at dksX1_bestHouse_0 7 rfl rfl)
theorem dX1_bestHouse_8 : decode cX1_bestHouse 8 = .ok (.getfield 14, 3) := dk_180 0 14 (dk_at dksX1_bestHouse_0 8 rfl rfl)
theorem dX1_bestHouse_11 : decode cX1_bestHouse 11 = .ok (.invokevirtual 61, 3) := dk_182 0 61 (dk_at dksX1_bestHouse_0 11 rfl rfl)
theorem dX1_bestHouse_14 : decode cX1_bestHouse 14 = .ok (.astore 6, 2) := dk_58 6 (dk_at dksX1_bestHouse_0 14 rfl rfl)
theorem dX1_bestHouse_16 : decode cX1_bestHouse 16 = .ok (.aload 6, 2) := dk_25 6 (dk_at dksX1_bestHouse_0 16 rfl rfl)
theorem dX1_bestHouse_18 : decode cX1_bestHouse 18 = .ok (.invokeinterface 65 1, 5) := by decide +kernel
theorem dX1_bestHouse_23 : decode cX1_bestHouse 23 = .ok (.ifCond .eq 101, 3) := dk_153 0 101 (dk_at dksX1_bestHouse_1 0 rfl rfl)
theorem dX1_bestHouse_26 : decode cX1_bestHouse 26 = .ok (.aload 6, 2) := dk_25 6 (dk_at dksX1_bestHouse_1 3 rfl rfl)
theorem dX1_bestHouse_28 : decode cX1_bestHouse 28 = .ok (.invokeinterface 71 1, 5) := by decide +kernel
theorem dX1_bestHouse_33 : decode cX1_bestHouse 33 = .ok (.checkcast 38, 3) := dk_192 0 38 (dk_at dksX1_bestHouse_1 10 rfl rfl)
theorem dX1_bestHouse_36 : decode cX1_bestHouse 36 = .ok (.astore 7, 2) := dk_58 7 (dk_at dksX1_bestHouse_1 13 rfl rfl)
theorem dX1_bestHouse_38 : decode cX1_bestHouse 38 = .ok (.aload 7, 2) := dk_25 7 (dk_at dksX1_bestHouse_1 15 rfl rfl)
theorem dX1_bestHouse_40 : decode cX1_bestHouse 40 = .ok (.invokevirtual 189, 3) := dk_182 0 189 (dk_at dksX1_bestHouse_1 17 rfl rfl)
theorem dX1_bestHouse_43 : decode cX1_bestHouse 43 = .ok (.ifCond .eq 7, 3) := dk_153 0 7 (dk_at dksX1_bestHouse_1 20 rfl rfl)
theorem dX1_bestHouse_46 : decode cX1_bestHouse 46 = .ok (.iconst 0, 1) := dk_3 (dk_at dksX1_bestHouse_1 23 rfl rfl)
theorem dX1_bestHouse_47 : decode cX1_bestHouse 47 = .ok (.goto 12, 3) := dk_167 0 12 (dk_at dksX1_bestHouse_2 0 rfl rfl)
theorem dX1_bestHouse_50 : decode cX1_bestHouse 50 = .ok (.aload_n 0, 1) := dk_42 (dk_at dksX1_bestHouse_2 3 rfl rfl)
theorem dX1_bestHouse_51 : decode cX1_bestHouse 51 = .ok (.aload_n 1, 1) := dk_43 (dk_at dksX1_bestHouse_2 4 rfl rfl)
theorem dX1_bestHouse_52 : decode cX1_bestHouse 52 = .ok (.aload 7, 2) := dk_25 7 (dk_at dksX1_bestHouse_2 5 rfl rfl)
theorem dX1_bestHouse_54 : decode cX1_bestHouse 54 = .ok (.iload_n 2, 1) := dk_28 (dk_at dksX1_bestHouse_2 7 rfl rfl)
theorem dX1_bestHouse_55 : decode cX1_bestHouse 55 = .ok (.iload_n 3, 1) := dk_29 (dk_at dksX1_bestHouse_2 8 rfl rfl)
theorem dX1_bestHouse_56 : decode cX1_bestHouse 56 = .ok (.invokevirtual 210, 3) := dk_182 0 210 (dk_at dksX1_bestHouse_2 9 rfl rfl)
theorem dX1_bestHouse_59 : decode cX1_bestHouse 59 = .ok (.istore 8, 2) := dk_54 8 (dk_at dksX1_bestHouse_2 12 rfl rfl)
theorem dX1_bestHouse_61 : decode cX1_bestHouse 61 = .ok (.iload 8, 2) := dk_21 8 (dk_at dksX1_bestHouse_2 14 rfl rfl)
theorem dX1_bestHouse_63 : decode cX1_bestHouse 63 = .ok (.ifCond .le 32, 3) := dk_158 0 32 (dk_at dksX1_bestHouse_2 16 rfl rfl)
theorem dX1_bestHouse_66 : decode cX1_bestHouse 66 = .ok (.iload 8, 2) := dk_21 8 (dk_at dksX1_bestHouse_2 19 rfl rfl)
theorem dX1_bestHouse_68 : decode cX1_bestHouse 68 = .ok (.iload 5, 2) := dk_21 5 (dk_at dksX1_bestHouse_2 21 rfl rfl)
theorem dX1_bestHouse_70 : decode cX1_bestHouse 70 = .ok (.if_icmp .ne 25, 3) := dk_160 0 25 (dk_at dksX1_bestHouse_3 0 rfl rfl)
theorem dX1_bestHouse_73 : decode cX1_bestHouse 73 = .ok (.aload_n 1, 1) := dk_43 (dk_at dksX1_bestHouse_3 3 rfl rfl)
theorem dX1_bestHouse_74 : decode cX1_bestHouse 74 = .ok (.aload 7, 2) := dk_25 7 (dk_at dksX1_bestHouse_3 4 rfl rfl)
theorem dX1_bestHouse_76 : decode cX1_bestHouse 76 = .ok (.getfield 186, 3) := dk_180 0 186 (dk_at dksX1_bestHouse_3 6 rfl rfl)
theorem dX1_bestHouse_79 : decode cX1_bestHouse 79 = .ok (.invokevirtual 172, 3) := dk_182 0 172 (dk_at dksX1_bestHouse_3 9 rfl rfl)
theorem dX1_bestHouse_82 : decode cX1_bestHouse 82 = .ok (.aload_n 1, 1) := dk_43 (dk_at dksX1_bestHouse_3 12 rfl rfl)
theorem dX1_bestHouse_83 : decode cX1_bestHouse 83 = .ok (.iload 4, 2) := dk_21 4 (dk_at dksX1_bestHouse_3 13 rfl rfl)
theorem dX1_bestHouse_85 : decode cX1_bestHouse 85 = .ok (.invokevirtual 172, 3) := dk_182 0 172 (dk_at dksX1_bestHouse_3 15 rfl rfl)
theorem dX1_bestHouse_88 : decode cX1_bestHouse 88 = .ok (.if_icmp .ge 7, 3) := dk_162 0 7 (dk_at dksX1_bestHouse_3 18 rfl rfl)
theorem dX1_bestHouse_91 : decode cX1_bestHouse 91 = .ok (.iconst 1, 1) := dk_4 (dk_at dksX1_bestHouse_3 21 rfl rfl)
theorem dX1_bestHouse_92 : decode cX1_bestHouse 92 = .ok (.goto 4, 3) := dk_167 0 4 (dk_at dksX1_bestHouse_4 0 rfl rfl)
theorem dX1_bestHouse_95 : decode cX1_bestHouse 95 = .ok (.iconst 0, 1) := dk_3 (dk_at dksX1_bestHouse_4 3 rfl rfl)
theorem dX1_bestHouse_96 : decode cX1_bestHouse 96 = .ok (.istore 9, 2) := dk_54 9 (dk_at dksX1_bestHouse_4 4 rfl rfl)
theorem dX1_bestHouse_98 : decode cX1_bestHouse 98 = .ok (.iload 8, 2) := dk_21 8 (dk_at dksX1_bestHouse_4 6 rfl rfl)
theorem dX1_bestHouse_100 : decode cX1_bestHouse 100 = .ok (.iload 5, 2) := dk_21 5 (dk_at dksX1_bestHouse_4 8 rfl rfl)
theorem dX1_bestHouse_102 : decode cX1_bestHouse 102 = .ok (.if_icmp .gt 8, 3) := dk_163 0 8 (dk_at dksX1_bestHouse_4 10 rfl rfl)
theorem dX1_bestHouse_105 : decode cX1_bestHouse 105 = .ok (.iload 9, 2) := dk_21 9 (dk_at dksX1_bestHouse_4 13 rfl rfl)
theorem dX1_bestHouse_107 : decode cX1_bestHouse 107 = .ok (.ifCond .eq 14, 3) := dk_153 0 14 (dk_at dksX1_bestHouse_4 15 rfl rfl)
theorem dX1_bestHouse_110 : decode cX1_bestHouse 110 = .ok (.aload 7, 2) := dk_25 7 (dk_at dksX1_bestHouse_4 18 rfl rfl)
theorem dX1_bestHouse_112 : decode cX1_bestHouse 112 = .ok (.getfield 186, 3) := dk_180 0 186 (dk_at dksX1_bestHouse_4 20 rfl rfl)
theorem dX1_bestHouse_115 : decode cX1_bestHouse 115 = .ok (.istore 4, 2) := dk_54 4 (dk_at dksX1_bestHouse_5 0 rfl rfl)
theorem dX1_bestHouse_117 : decode cX1_bestHouse 117 = .ok (.iload 8, 2) := dk_21 8 (dk_at dksX1_bestHouse_5 2 rfl rfl)
theorem dX1_bestHouse_119 : decode cX1_bestHouse 119 = .ok (.istore 5, 2) := dk_54 5 (dk_at dksX1_bestHouse_5 4 rfl rfl)
theorem dX1_bestHouse_121 : decode cX1_bestHouse 121 = .ok (.goto (-105), 3) := dk_167 255 151 (dk_at dksX1_bestHouse_5 6 rfl rfl)
theorem dX1_bestHouse_124 : decode cX1_bestHouse 124 = .ok (.iload 4, 2) := dk_21 4 (dk_at dksX1_bestHouse_5 9 rfl rfl)
theorem dX1_bestHouse_126 : decode cX1_bestHouse 126 = .ok (.ireturn, 1) := dk_172 (dk_at dksX1_bestHouse_5 11 rfl rfl)
abbrev cX1_rings : ByteArray := prog_2_method_21_code
def yX1_rings : MethodName := ⟨RX1, "rings", "(III)I"⟩
def dkwX1_rings_8 : List UInt8 := [182, 0, 224, 21, 6, 172]
abbrev dktX1_rings_8 : List UInt8 := dkwX1_rings_8 ++ []
def dkwX1_rings_7 : List UInt8 := [25, 4, 187, 0, 81, 89, 27, 25, 5, 180, 0, 186, 28, 21, 6, 29, 42, 180, 0, 100, 183, 0, 221]
abbrev dktX1_rings_7 : List UInt8 := dkwX1_rings_7 ++ dktX1_rings_8
def dkwX1_rings_6 : List UInt8 := [25, 5, 28, 29, 182, 0, 210, 54, 6, 25, 5, 28, 21, 6, 182, 0, 217, 21, 6, 158, 0, 30, 42]
abbrev dktX1_rings_6 : List UInt8 := dkwX1_rings_6 ++ dktX1_rings_7
def dkwX1_rings_5 : List UInt8 := [25, 5, 25, 4, 180, 0, 198, 182, 0, 201, 154, 0, 11, 25, 5, 2, 182, 0, 214, 3, 172, 42, 25, 4]
abbrev dktX1_rings_5 : List UInt8 := dkwX1_rings_5 ++ dktX1_rings_6
def dkwX1_rings_4 : List UInt8 := [184, 0, 133, 42, 89, 180, 0, 103, 8, 96, 181, 0, 103, 42, 89, 180, 0, 118, 4, 96, 181, 0, 118]
abbrev dktX1_rings_4 : List UInt8 := dkwX1_rings_4 ++ dktX1_rings_5
def dkwX1_rings_3 : List UInt8 := [184, 0, 133, 42, 180, 0, 26, 182, 0, 132, 16, 40, 160, 0, 7, 4, 167, 0, 4, 3, 4, 16, 40]
abbrev dktX1_rings_3 : List UInt8 := dkwX1_rings_3 ++ dktX1_rings_4
def dkwX1_rings_2 : List UInt8 := [8, 182, 0, 177, 25, 4, 180, 0, 158, 28, 46, 154, 0, 7, 4, 167, 0, 4, 3, 16, 7, 3]
abbrev dktX1_rings_2 : List UInt8 := dkwX1_rings_2 ++ dktX1_rings_3
def dkwX1_rings_1 : List UInt8 := [182, 0, 49, 192, 0, 38, 58, 5, 25, 5, 182, 0, 189, 16, 9, 25, 5, 180, 0, 145, 184, 0, 133, 42]
abbrev dktX1_rings_1 : List UInt8 := dkwX1_rings_1 ++ dktX1_rings_2
def dkwX1_rings_0 : List UInt8 := [42, 180, 0, 20, 27, 182, 0, 49, 192, 0, 75, 58, 4, 42, 180, 0, 14, 25, 4, 180, 0, 141]
abbrev dktX1_rings_0 : List UInt8 := dkwX1_rings_0 ++ dktX1_rings_1
theorem dksX1_rings_0 : cX1_rings.data.toList.drop 0 = dktX1_rings_0 := by decide +kernel
theorem dksX1_rings_1 : cX1_rings.data.toList.drop 22 = dktX1_rings_1 := dk_seg dksX1_rings_0 22 rfl rfl
theorem dksX1_rings_2 : cX1_rings.data.toList.drop 46 = dktX1_rings_2 := dk_seg dksX1_rings_1 24 rfl rfl
theorem dksX1_rings_3 : cX1_rings.data.toList.drop 68 = dktX1_rings_3 := dk_seg dksX1_rings_2 22 rfl rfl
theorem dksX1_rings_4 : cX1_rings.data.toList.drop 91 = dktX1_rings_4 := dk_seg dksX1_rings_3 23 rfl rfl
theorem dksX1_rings_5 : cX1_rings.data.toList.drop 114 = dktX1_rings_5 := dk_seg dksX1_rings_4 23 rfl rfl
theorem dksX1_rings_6 : cX1_rings.data.toList.drop 138 = dktX1_rings_6 := dk_seg dksX1_rings_5 24 rfl rfl
theorem dksX1_rings_7 : cX1_rings.data.toList.drop 161 = dktX1_rings_7 := dk_seg dksX1_rings_6 23 rfl rfl
theorem dksX1_rings_8 : cX1_rings.data.toList.drop 184 = dktX1_rings_8 := dk_seg dksX1_rings_7 23 rfl rfl
theorem dX1_rings_0 : decode cX1_rings 0 = .ok (.aload_n 0, 1) := dk_42 (dk_at dksX1_rings_0 0 rfl rfl)
theorem dX1_rings_1 : decode cX1_rings 1 = .ok (.getfield 20, 3) := dk_180 0 20 (dk_at dksX1_rings_0 1 rfl rfl)
theorem dX1_rings_4 : decode cX1_rings 4 = .ok (.iload_n 1, 1) := dk_27 (dk_at dksX1_rings_0 4 rfl rfl)
theorem dX1_rings_5 : decode cX1_rings 5 = .ok (.invokevirtual 49, 3) := dk_182 0 49 (dk_at dksX1_rings_0 5 rfl rfl)
theorem dX1_rings_8 : decode cX1_rings 8 = .ok (.checkcast 75, 3) := dk_192 0 75 (dk_at dksX1_rings_0 8 rfl rfl)
theorem dX1_rings_11 : decode cX1_rings 11 = .ok (.astore 4, 2) := dk_58 4 (dk_at dksX1_rings_0 11 rfl rfl)
theorem dX1_rings_13 : decode cX1_rings 13 = .ok (.aload_n 0, 1) := dk_42 (dk_at dksX1_rings_0 13 rfl rfl)
theorem dX1_rings_14 : decode cX1_rings 14 = .ok (.getfield 14, 3) := dk_180 0 14 (dk_at dksX1_rings_0 14 rfl rfl)
theorem dX1_rings_17 : decode cX1_rings 17 = .ok (.aload 4, 2) := dk_25 4 (dk_at dksX1_rings_0 17 rfl rfl)
theorem dX1_rings_19 : decode cX1_rings 19 = .ok (.getfield 141, 3) := dk_180 0 141 (dk_at dksX1_rings_0 19 rfl rfl)
theorem dX1_rings_22 : decode cX1_rings 22 = .ok (.invokevirtual 49, 3) := dk_182 0 49 (dk_at dksX1_rings_1 0 rfl rfl)
theorem dX1_rings_25 : decode cX1_rings 25 = .ok (.checkcast 38, 3) := dk_192 0 38 (dk_at dksX1_rings_1 3 rfl rfl)
theorem dX1_rings_28 : decode cX1_rings 28 = .ok (.astore 5, 2) := dk_58 5 (dk_at dksX1_rings_1 6 rfl rfl)
theorem dX1_rings_30 : decode cX1_rings 30 = .ok (.aload 5, 2) := dk_25 5 (dk_at dksX1_rings_1 8 rfl rfl)
theorem dX1_rings_32 : decode cX1_rings 32 = .ok (.invokevirtual 189, 3) := dk_182 0 189 (dk_at dksX1_rings_1 10 rfl rfl)
theorem dX1_rings_35 : decode cX1_rings 35 = .ok (.bipush 9, 2) := dk_16 9 (dk_at dksX1_rings_1 13 rfl rfl)
theorem dX1_rings_37 : decode cX1_rings 37 = .ok (.aload 5, 2) := dk_25 5 (dk_at dksX1_rings_1 15 rfl rfl)
theorem dX1_rings_39 : decode cX1_rings 39 = .ok (.getfield 145, 3) := dk_180 0 145 (dk_at dksX1_rings_1 17 rfl rfl)
theorem dX1_rings_42 : decode cX1_rings 42 = .ok (.invokestatic 133, 3) := dk_184 0 133 (dk_at dksX1_rings_1 20 rfl rfl)
theorem dX1_rings_45 : decode cX1_rings 45 = .ok (.aload_n 0, 1) := dk_42 (dk_at dksX1_rings_1 23 rfl rfl)
theorem dX1_rings_46 : decode cX1_rings 46 = .ok (.iconst 5, 1) := dk_8 (dk_at dksX1_rings_2 0 rfl rfl)
theorem dX1_rings_47 : decode cX1_rings 47 = .ok (.invokevirtual 177, 3) := dk_182 0 177 (dk_at dksX1_rings_2 1 rfl rfl)
theorem dX1_rings_50 : decode cX1_rings 50 = .ok (.aload 4, 2) := dk_25 4 (dk_at dksX1_rings_2 4 rfl rfl)
theorem dX1_rings_52 : decode cX1_rings 52 = .ok (.getfield 158, 3) := dk_180 0 158 (dk_at dksX1_rings_2 6 rfl rfl)
theorem dX1_rings_55 : decode cX1_rings 55 = .ok (.iload_n 2, 1) := dk_28 (dk_at dksX1_rings_2 9 rfl rfl)
theorem dX1_rings_56 : decode cX1_rings 56 = .ok (.iaload, 1) := dk_46 (dk_at dksX1_rings_2 10 rfl rfl)
theorem dX1_rings_57 : decode cX1_rings 57 = .ok (.ifCond .ne 7, 3) := dk_154 0 7 (dk_at dksX1_rings_2 11 rfl rfl)
theorem dX1_rings_60 : decode cX1_rings 60 = .ok (.iconst 1, 1) := dk_4 (dk_at dksX1_rings_2 14 rfl rfl)
theorem dX1_rings_61 : decode cX1_rings 61 = .ok (.goto 4, 3) := dk_167 0 4 (dk_at dksX1_rings_2 15 rfl rfl)
theorem dX1_rings_64 : decode cX1_rings 64 = .ok (.iconst 0, 1) := dk_3 (dk_at dksX1_rings_2 18 rfl rfl)
theorem dX1_rings_65 : decode cX1_rings 65 = .ok (.bipush 7, 2) := dk_16 7 (dk_at dksX1_rings_2 19 rfl rfl)
theorem dX1_rings_67 : decode cX1_rings 67 = .ok (.iconst 0, 1) := dk_3 (dk_at dksX1_rings_2 21 rfl rfl)
theorem dX1_rings_68 : decode cX1_rings 68 = .ok (.invokestatic 133, 3) := dk_184 0 133 (dk_at dksX1_rings_3 0 rfl rfl)
theorem dX1_rings_71 : decode cX1_rings 71 = .ok (.aload_n 0, 1) := dk_42 (dk_at dksX1_rings_3 3 rfl rfl)
theorem dX1_rings_72 : decode cX1_rings 72 = .ok (.getfield 26, 3) := dk_180 0 26 (dk_at dksX1_rings_3 4 rfl rfl)
theorem dX1_rings_75 : decode cX1_rings 75 = .ok (.invokevirtual 132, 3) := dk_182 0 132 (dk_at dksX1_rings_3 7 rfl rfl)
theorem dX1_rings_78 : decode cX1_rings 78 = .ok (.bipush 40, 2) := dk_16 40 (dk_at dksX1_rings_3 10 rfl rfl)
theorem dX1_rings_80 : decode cX1_rings 80 = .ok (.if_icmp .ne 7, 3) := dk_160 0 7 (dk_at dksX1_rings_3 12 rfl rfl)
theorem dX1_rings_83 : decode cX1_rings 83 = .ok (.iconst 1, 1) := dk_4 (dk_at dksX1_rings_3 15 rfl rfl)
theorem dX1_rings_84 : decode cX1_rings 84 = .ok (.goto 4, 3) := dk_167 0 4 (dk_at dksX1_rings_3 16 rfl rfl)
theorem dX1_rings_87 : decode cX1_rings 87 = .ok (.iconst 0, 1) := dk_3 (dk_at dksX1_rings_3 19 rfl rfl)
theorem dX1_rings_88 : decode cX1_rings 88 = .ok (.iconst 1, 1) := dk_4 (dk_at dksX1_rings_3 20 rfl rfl)
theorem dX1_rings_89 : decode cX1_rings 89 = .ok (.bipush 40, 2) := dk_16 40 (dk_at dksX1_rings_3 21 rfl rfl)
theorem dX1_rings_91 : decode cX1_rings 91 = .ok (.invokestatic 133, 3) := dk_184 0 133 (dk_at dksX1_rings_4 0 rfl rfl)
theorem dX1_rings_94 : decode cX1_rings 94 = .ok (.aload_n 0, 1) := dk_42 (dk_at dksX1_rings_4 3 rfl rfl)
theorem dX1_rings_95 : decode cX1_rings 95 = .ok (.dup, 1) := dk_89 (dk_at dksX1_rings_4 4 rfl rfl)
theorem dX1_rings_96 : decode cX1_rings 96 = .ok (.getfield 103, 3) := dk_180 0 103 (dk_at dksX1_rings_4 5 rfl rfl)
theorem dX1_rings_99 : decode cX1_rings 99 = .ok (.iconst 5, 1) := dk_8 (dk_at dksX1_rings_4 8 rfl rfl)
theorem dX1_rings_100 : decode cX1_rings 100 = .ok (.iadd, 1) := dk_96 (dk_at dksX1_rings_4 9 rfl rfl)
theorem dX1_rings_101 : decode cX1_rings 101 = .ok (.putfield 103, 3) := dk_181 0 103 (dk_at dksX1_rings_4 10 rfl rfl)
theorem dX1_rings_104 : decode cX1_rings 104 = .ok (.aload_n 0, 1) := dk_42 (dk_at dksX1_rings_4 13 rfl rfl)
theorem dX1_rings_105 : decode cX1_rings 105 = .ok (.dup, 1) := dk_89 (dk_at dksX1_rings_4 14 rfl rfl)
theorem dX1_rings_106 : decode cX1_rings 106 = .ok (.getfield 118, 3) := dk_180 0 118 (dk_at dksX1_rings_4 15 rfl rfl)
theorem dX1_rings_109 : decode cX1_rings 109 = .ok (.iconst 1, 1) := dk_4 (dk_at dksX1_rings_4 18 rfl rfl)
theorem dX1_rings_110 : decode cX1_rings 110 = .ok (.iadd, 1) := dk_96 (dk_at dksX1_rings_4 19 rfl rfl)
theorem dX1_rings_111 : decode cX1_rings 111 = .ok (.putfield 118, 3) := dk_181 0 118 (dk_at dksX1_rings_4 20 rfl rfl)
theorem dX1_rings_114 : decode cX1_rings 114 = .ok (.aload 5, 2) := dk_25 5 (dk_at dksX1_rings_5 0 rfl rfl)
theorem dX1_rings_116 : decode cX1_rings 116 = .ok (.aload 4, 2) := dk_25 4 (dk_at dksX1_rings_5 2 rfl rfl)
theorem dX1_rings_118 : decode cX1_rings 118 = .ok (.getfield 198, 3) := dk_180 0 198 (dk_at dksX1_rings_5 4 rfl rfl)
theorem dX1_rings_121 : decode cX1_rings 121 = .ok (.invokevirtual 201, 3) := dk_182 0 201 (dk_at dksX1_rings_5 7 rfl rfl)
theorem dX1_rings_124 : decode cX1_rings 124 = .ok (.ifCond .ne 11, 3) := dk_154 0 11 (dk_at dksX1_rings_5 10 rfl rfl)
theorem dX1_rings_127 : decode cX1_rings 127 = .ok (.aload 5, 2) := dk_25 5 (dk_at dksX1_rings_5 13 rfl rfl)
theorem dX1_rings_129 : decode cX1_rings 129 = .ok (.iconst (-1), 1) := dk_2 (dk_at dksX1_rings_5 15 rfl rfl)
theorem dX1_rings_130 : decode cX1_rings 130 = .ok (.invokevirtual 214, 3) := dk_182 0 214 (dk_at dksX1_rings_5 16 rfl rfl)
theorem dX1_rings_133 : decode cX1_rings 133 = .ok (.iconst 0, 1) := dk_3 (dk_at dksX1_rings_5 19 rfl rfl)
theorem dX1_rings_134 : decode cX1_rings 134 = .ok (.ireturn, 1) := dk_172 (dk_at dksX1_rings_5 20 rfl rfl)
theorem dX1_rings_135 : decode cX1_rings 135 = .ok (.aload_n 0, 1) := dk_42 (dk_at dksX1_rings_5 21 rfl rfl)
theorem dX1_rings_136 : decode cX1_rings 136 = .ok (.aload 4, 2) := dk_25 4 (dk_at dksX1_rings_5 22 rfl rfl)
theorem dX1_rings_138 : decode cX1_rings 138 = .ok (.aload 5, 2) := dk_25 5 (dk_at dksX1_rings_6 0 rfl rfl)
theorem dX1_rings_140 : decode cX1_rings 140 = .ok (.iload_n 2, 1) := dk_28 (dk_at dksX1_rings_6 2 rfl rfl)
theorem dX1_rings_141 : decode cX1_rings 141 = .ok (.iload_n 3, 1) := dk_29 (dk_at dksX1_rings_6 3 rfl rfl)
theorem dX1_rings_142 : decode cX1_rings 142 = .ok (.invokevirtual 210, 3) := dk_182 0 210 (dk_at dksX1_rings_6 4 rfl rfl)
theorem dX1_rings_145 : decode cX1_rings 145 = .ok (.istore 6, 2) := dk_54 6 (dk_at dksX1_rings_6 7 rfl rfl)
theorem dX1_rings_147 : decode cX1_rings 147 = .ok (.aload 5, 2) := dk_25 5 (dk_at dksX1_rings_6 9 rfl rfl)
theorem dX1_rings_149 : decode cX1_rings 149 = .ok (.iload_n 2, 1) := dk_28 (dk_at dksX1_rings_6 11 rfl rfl)
theorem dX1_rings_150 : decode cX1_rings 150 = .ok (.iload 6, 2) := dk_21 6 (dk_at dksX1_rings_6 12 rfl rfl)
theorem dX1_rings_152 : decode cX1_rings 152 = .ok (.invokevirtual 217, 3) := dk_182 0 217 (dk_at dksX1_rings_6 14 rfl rfl)
theorem dX1_rings_155 : decode cX1_rings 155 = .ok (.iload 6, 2) := dk_21 6 (dk_at dksX1_rings_6 17 rfl rfl)
theorem dX1_rings_157 : decode cX1_rings 157 = .ok (.ifCond .le 30, 3) := dk_158 0 30 (dk_at dksX1_rings_6 19 rfl rfl)
theorem dX1_rings_160 : decode cX1_rings 160 = .ok (.aload_n 0, 1) := dk_42 (dk_at dksX1_rings_6 22 rfl rfl)
theorem dX1_rings_161 : decode cX1_rings 161 = .ok (.aload 4, 2) := dk_25 4 (dk_at dksX1_rings_7 0 rfl rfl)
theorem dX1_rings_163 : decode cX1_rings 163 = .ok (.new 81, 3) := dk_187 0 81 (dk_at dksX1_rings_7 2 rfl rfl)
theorem dX1_rings_166 : decode cX1_rings 166 = .ok (.dup, 1) := dk_89 (dk_at dksX1_rings_7 5 rfl rfl)
theorem dX1_rings_167 : decode cX1_rings 167 = .ok (.iload_n 1, 1) := dk_27 (dk_at dksX1_rings_7 6 rfl rfl)
theorem dX1_rings_168 : decode cX1_rings 168 = .ok (.aload 5, 2) := dk_25 5 (dk_at dksX1_rings_7 7 rfl rfl)
theorem dX1_rings_170 : decode cX1_rings 170 = .ok (.getfield 186, 3) := dk_180 0 186 (dk_at dksX1_rings_7 9 rfl rfl)
theorem dX1_rings_173 : decode cX1_rings 173 = .ok (.iload_n 2, 1) := dk_28 (dk_at dksX1_rings_7 12 rfl rfl)
theorem dX1_rings_174 : decode cX1_rings 174 = .ok (.iload 6, 2) := dk_21 6 (dk_at dksX1_rings_7 13 rfl rfl)
theorem dX1_rings_176 : decode cX1_rings 176 = .ok (.iload_n 3, 1) := dk_29 (dk_at dksX1_rings_7 15 rfl rfl)
theorem dX1_rings_177 : decode cX1_rings 177 = .ok (.aload_n 0, 1) := dk_42 (dk_at dksX1_rings_7 16 rfl rfl)
theorem dX1_rings_178 : decode cX1_rings 178 = .ok (.getfield 100, 3) := dk_180 0 100 (dk_at dksX1_rings_7 17 rfl rfl)
theorem dX1_rings_181 : decode cX1_rings 181 = .ok (.invokespecial 221, 3) := dk_183 0 221 (dk_at dksX1_rings_7 20 rfl rfl)
theorem dX1_rings_184 : decode cX1_rings 184 = .ok (.invokevirtual 224, 3) := dk_182 0 224 (dk_at dksX1_rings_8 0 rfl rfl)
theorem dX1_rings_187 : decode cX1_rings 187 = .ok (.iload 6, 2) := dk_21 6 (dk_at dksX1_rings_8 3 rfl rfl)
theorem dX1_rings_189 : decode cX1_rings 189 = .ok (.ireturn, 1) := dk_172 (dk_at dksX1_rings_8 5 rfl rfl)
abbrev cX1_sells : ByteArray := prog_2_method_22_code
def yX1_sells : MethodName := ⟨RX1, "sells", "(LBrushSellers$Seller;LBrushSellers$Sale;)V"⟩
def dkwX1_sells_2 : List UInt8 := [180, 0, 106, 44, 182, 0, 236, 96, 181, 0, 106, 42, 180, 0, 26, 44, 182, 0, 86, 177]
abbrev dktX1_sells_2 : List UInt8 := dkwX1_sells_2 ++ []
def dkwX1_sells_1 : List UInt8 := [180, 0, 231, 96, 181, 0, 233, 42, 89, 180, 0, 34, 44, 182, 0, 236, 96, 181, 0, 34, 42, 89]
abbrev dktX1_sells_1 : List UInt8 := dkwX1_sells_1 ++ dktX1_sells_2
def dkwX1_sells_0 : List UInt8 := [43, 180, 0, 158, 44, 180, 0, 228, 92, 46, 44, 180, 0, 231, 100, 79, 43, 89, 180, 0, 233, 44]
abbrev dktX1_sells_0 : List UInt8 := dkwX1_sells_0 ++ dktX1_sells_1
theorem dksX1_sells_0 : cX1_sells.data.toList.drop 0 = dktX1_sells_0 := by decide +kernel
theorem dksX1_sells_1 : cX1_sells.data.toList.drop 22 = dktX1_sells_1 := dk_seg dksX1_sells_0 22 rfl rfl
theorem dksX1_sells_2 : cX1_sells.data.toList.drop 44 = dktX1_sells_2 := dk_seg dksX1_sells_1 22 rfl rfl
theorem dX1_sells_0 : decode cX1_sells 0 = .ok (.aload_n 1, 1) := dk_43 (dk_at dksX1_sells_0 0 rfl rfl)
theorem dX1_sells_1 : decode cX1_sells 1 = .ok (.getfield 158, 3) := dk_180 0 158 (dk_at dksX1_sells_0 1 rfl rfl)
theorem dX1_sells_4 : decode cX1_sells 4 = .ok (.aload_n 2, 1) := dk_44 (dk_at dksX1_sells_0 4 rfl rfl)
theorem dX1_sells_5 : decode cX1_sells 5 = .ok (.getfield 228, 3) := dk_180 0 228 (dk_at dksX1_sells_0 5 rfl rfl)
theorem dX1_sells_8 : decode cX1_sells 8 = .ok (.dup2, 1) := dk_92 (dk_at dksX1_sells_0 8 rfl rfl)
theorem dX1_sells_9 : decode cX1_sells 9 = .ok (.iaload, 1) := dk_46 (dk_at dksX1_sells_0 9 rfl rfl)
theorem dX1_sells_10 : decode cX1_sells 10 = .ok (.aload_n 2, 1) := dk_44 (dk_at dksX1_sells_0 10 rfl rfl)
theorem dX1_sells_11 : decode cX1_sells 11 = .ok (.getfield 231, 3) := dk_180 0 231 (dk_at dksX1_sells_0 11 rfl rfl)
theorem dX1_sells_14 : decode cX1_sells 14 = .ok (.isub, 1) := dk_100 (dk_at dksX1_sells_0 14 rfl rfl)
theorem dX1_sells_15 : decode cX1_sells 15 = .ok (.iastore, 1) := dk_79 (dk_at dksX1_sells_0 15 rfl rfl)
theorem dX1_sells_16 : decode cX1_sells 16 = .ok (.aload_n 1, 1) := dk_43 (dk_at dksX1_sells_0 16 rfl rfl)
theorem dX1_sells_17 : decode cX1_sells 17 = .ok (.dup, 1) := dk_89 (dk_at dksX1_sells_0 17 rfl rfl)
theorem dX1_sells_18 : decode cX1_sells 18 = .ok (.getfield 233, 3) := dk_180 0 233 (dk_at dksX1_sells_0 18 rfl rfl)
theorem dX1_sells_21 : decode cX1_sells 21 = .ok (.aload_n 2, 1) := dk_44 (dk_at dksX1_sells_0 21 rfl rfl)
theorem dX1_sells_22 : decode cX1_sells 22 = .ok (.getfield 231, 3) := dk_180 0 231 (dk_at dksX1_sells_1 0 rfl rfl)
theorem dX1_sells_25 : decode cX1_sells 25 = .ok (.iadd, 1) := dk_96 (dk_at dksX1_sells_1 3 rfl rfl)
theorem dX1_sells_26 : decode cX1_sells 26 = .ok (.putfield 233, 3) := dk_181 0 233 (dk_at dksX1_sells_1 4 rfl rfl)
theorem dX1_sells_29 : decode cX1_sells 29 = .ok (.aload_n 0, 1) := dk_42 (dk_at dksX1_sells_1 7 rfl rfl)
theorem dX1_sells_30 : decode cX1_sells 30 = .ok (.dup, 1) := dk_89 (dk_at dksX1_sells_1 8 rfl rfl)
theorem dX1_sells_31 : decode cX1_sells 31 = .ok (.getfield 34, 3) := dk_180 0 34 (dk_at dksX1_sells_1 9 rfl rfl)
theorem dX1_sells_34 : decode cX1_sells 34 = .ok (.aload_n 2, 1) := dk_44 (dk_at dksX1_sells_1 12 rfl rfl)
theorem dX1_sells_35 : decode cX1_sells 35 = .ok (.invokevirtual 236, 3) := dk_182 0 236 (dk_at dksX1_sells_1 13 rfl rfl)
theorem dX1_sells_38 : decode cX1_sells 38 = .ok (.iadd, 1) := dk_96 (dk_at dksX1_sells_1 16 rfl rfl)
theorem dX1_sells_39 : decode cX1_sells 39 = .ok (.putfield 34, 3) := dk_181 0 34 (dk_at dksX1_sells_1 17 rfl rfl)
theorem dX1_sells_42 : decode cX1_sells 42 = .ok (.aload_n 0, 1) := dk_42 (dk_at dksX1_sells_1 20 rfl rfl)
theorem dX1_sells_43 : decode cX1_sells 43 = .ok (.dup, 1) := dk_89 (dk_at dksX1_sells_1 21 rfl rfl)
theorem dX1_sells_44 : decode cX1_sells 44 = .ok (.getfield 106, 3) := dk_180 0 106 (dk_at dksX1_sells_2 0 rfl rfl)
theorem dX1_sells_47 : decode cX1_sells 47 = .ok (.aload_n 2, 1) := dk_44 (dk_at dksX1_sells_2 3 rfl rfl)
theorem dX1_sells_48 : decode cX1_sells 48 = .ok (.invokevirtual 236, 3) := dk_182 0 236 (dk_at dksX1_sells_2 4 rfl rfl)
theorem dX1_sells_51 : decode cX1_sells 51 = .ok (.iadd, 1) := dk_96 (dk_at dksX1_sells_2 7 rfl rfl)
theorem dX1_sells_52 : decode cX1_sells 52 = .ok (.putfield 106, 3) := dk_181 0 106 (dk_at dksX1_sells_2 8 rfl rfl)
theorem dX1_sells_55 : decode cX1_sells 55 = .ok (.aload_n 0, 1) := dk_42 (dk_at dksX1_sells_2 11 rfl rfl)
theorem dX1_sells_56 : decode cX1_sells 56 = .ok (.getfield 26, 3) := dk_180 0 26 (dk_at dksX1_sells_2 12 rfl rfl)
theorem dX1_sells_59 : decode cX1_sells 59 = .ok (.aload_n 2, 1) := dk_44 (dk_at dksX1_sells_2 15 rfl rfl)
theorem dX1_sells_60 : decode cX1_sells 60 = .ok (.invokevirtual 86, 3) := dk_182 0 86 (dk_at dksX1_sells_2 16 rfl rfl)
theorem dX1_sells_63 : decode cX1_sells 63 = .ok (.return_, 1) := dk_177 (dk_at dksX1_sells_2 19 rfl rfl)
abbrev cX1_isSale : ByteArray := prog_2_method_5_code
def yX1_isSale : MethodName := ⟨RX1, "isSale", "(I)Z"⟩
def dkwX1_isSale_0 : List UInt8 := [27, 3, 42, 180, 0, 26, 182, 0, 132, 4, 100, 184, 0, 128, 172]
abbrev dktX1_isSale_0 : List UInt8 := dkwX1_isSale_0 ++ []
theorem dksX1_isSale_0 : cX1_isSale.data.toList.drop 0 = dktX1_isSale_0 := by decide +kernel
theorem dX1_isSale_0 : decode cX1_isSale 0 = .ok (.iload_n 1, 1) := dk_27 (dk_at dksX1_isSale_0 0 rfl rfl)
theorem dX1_isSale_1 : decode cX1_isSale 1 = .ok (.iconst 0, 1) := dk_3 (dk_at dksX1_isSale_0 1 rfl rfl)
theorem dX1_isSale_2 : decode cX1_isSale 2 = .ok (.aload_n 0, 1) := dk_42 (dk_at dksX1_isSale_0 2 rfl rfl)
theorem dX1_isSale_3 : decode cX1_isSale 3 = .ok (.getfield 26, 3) := dk_180 0 26 (dk_at dksX1_isSale_0 3 rfl rfl)
theorem dX1_isSale_6 : decode cX1_isSale 6 = .ok (.invokevirtual 132, 3) := dk_182 0 132 (dk_at dksX1_isSale_0 6 rfl rfl)
theorem dX1_isSale_9 : decode cX1_isSale 9 = .ok (.iconst 1, 1) := dk_4 (dk_at dksX1_isSale_0 9 rfl rfl)
theorem dX1_isSale_10 : decode cX1_isSale 10 = .ok (.isub, 1) := dk_100 (dk_at dksX1_isSale_0 10 rfl rfl)
theorem dX1_isSale_11 : decode cX1_isSale 11 = .ok (.invokestatic 128, 3) := dk_184 0 128 (dk_at dksX1_isSale_0 11 rfl rfl)
theorem dX1_isSale_14 : decode cX1_isSale 14 = .ok (.ireturn, 1) := dk_172 (dk_at dksX1_isSale_0 14 rfl rfl)
abbrev cX1_takesBack : ByteArray := prog_2_method_23_code
def yX1_takesBack : MethodName := ⟨RX1, "takesBack", "(I)I"⟩
def dkwX1_takesBack_8 : List UInt8 := [182, 0, 49, 192, 0, 38, 5, 182, 0, 214, 44, 4, 181, 0, 242, 44, 182, 0, 236, 172]
abbrev dktX1_takesBack_8 : List UInt8 := dkwX1_takesBack_8 ++ []
def dkwX1_takesBack_7 : List UInt8 := [181, 0, 115, 45, 89, 180, 0, 248, 44, 180, 0, 231, 96, 181, 0, 248, 42, 180, 0, 14, 44, 180, 0, 246]
abbrev dktX1_takesBack_7 : List UInt8 := dkwX1_takesBack_7 ++ dktX1_takesBack_8
def dkwX1_takesBack_6 : List UInt8 := [44, 180, 0, 228, 92, 46, 21, 4, 96, 79, 42, 89, 180, 0, 115, 44, 180, 0, 231, 21, 4, 100, 96]
abbrev dktX1_takesBack_6 : List UInt8 := dkwX1_takesBack_6 ++ dktX1_takesBack_7
def dkwX1_takesBack_5 : List UInt8 := [181, 0, 109, 44, 180, 0, 231, 45, 44, 180, 0, 228, 182, 0, 154, 184, 0, 207, 54, 4, 45, 180, 0, 158]
abbrev dktX1_takesBack_5 : List UInt8 := dkwX1_takesBack_5 ++ dktX1_takesBack_6
def dkwX1_takesBack_4 : List UInt8 := [100, 184, 0, 133, 42, 44, 182, 0, 236, 182, 0, 151, 42, 89, 180, 0, 109, 44, 182, 0, 236, 96]
abbrev dktX1_takesBack_4 : List UInt8 := dkwX1_takesBack_4 ++ dktX1_takesBack_5
def dkwX1_takesBack_3 : List UInt8 := [180, 0, 247, 100, 16, 7, 164, 0, 7, 4, 167, 0, 4, 3, 16, 13, 42, 180, 0, 100, 44, 180, 0, 247]
abbrev dktX1_takesBack_3 : List UInt8 := dkwX1_takesBack_3 ++ dktX1_takesBack_4
def dkwX1_takesBack_2 : List UInt8 := [154, 0, 7, 4, 167, 0, 4, 3, 16, 12, 44, 180, 0, 246, 184, 0, 133, 42, 180, 0, 100, 44]
abbrev dktX1_takesBack_2 : List UInt8 := dkwX1_takesBack_2 ++ dktX1_takesBack_3
def dkwX1_takesBack_1 : List UInt8 := [192, 0, 75, 78, 44, 180, 0, 242, 16, 11, 27, 184, 0, 133, 45, 44, 180, 0, 246, 182, 0, 137]
abbrev dktX1_takesBack_1 : List UInt8 := dkwX1_takesBack_1 ++ dktX1_takesBack_2
def dkwX1_takesBack_0 : List UInt8 := [42, 180, 0, 26, 27, 182, 0, 238, 192, 0, 81, 77, 42, 180, 0, 20, 44, 180, 0, 239, 182, 0, 49]
abbrev dktX1_takesBack_0 : List UInt8 := dkwX1_takesBack_0 ++ dktX1_takesBack_1
theorem dksX1_takesBack_0 : cX1_takesBack.data.toList.drop 0 = dktX1_takesBack_0 := by decide +kernel
theorem dksX1_takesBack_1 : cX1_takesBack.data.toList.drop 23 = dktX1_takesBack_1 := dk_seg dksX1_takesBack_0 23 rfl rfl
theorem dksX1_takesBack_2 : cX1_takesBack.data.toList.drop 45 = dktX1_takesBack_2 := dk_seg dksX1_takesBack_1 22 rfl rfl
theorem dksX1_takesBack_3 : cX1_takesBack.data.toList.drop 67 = dktX1_takesBack_3 := dk_seg dksX1_takesBack_2 22 rfl rfl
theorem dksX1_takesBack_4 : cX1_takesBack.data.toList.drop 91 = dktX1_takesBack_4 := dk_seg dksX1_takesBack_3 24 rfl rfl
theorem dksX1_takesBack_5 : cX1_takesBack.data.toList.drop 113 = dktX1_takesBack_5 := dk_seg dksX1_takesBack_4 22 rfl rfl
theorem dksX1_takesBack_6 : cX1_takesBack.data.toList.drop 137 = dktX1_takesBack_6 := dk_seg dksX1_takesBack_5 24 rfl rfl
theorem dksX1_takesBack_7 : cX1_takesBack.data.toList.drop 160 = dktX1_takesBack_7 := dk_seg dksX1_takesBack_6 23 rfl rfl
theorem dksX1_takesBack_8 : cX1_takesBack.data.toList.drop 184 = dktX1_takesBack_8 := dk_seg dksX1_takesBack_7 24 rfl rfl
theorem dX1_takesBack_0 : decode cX1_takesBack 0 = .ok (.aload_n 0, 1) := dk_42 (dk_at dksX1_takesBack_0 0 rfl rfl)
theorem dX1_takesBack_1 : decode cX1_takesBack 1 = .ok (.getfield 26, 3) := dk_180 0 26 (dk_at dksX1_takesBack_0 1 rfl rfl)
theorem dX1_takesBack_4 : decode cX1_takesBack 4 = .ok (.iload_n 1, 1) := dk_27 (dk_at dksX1_takesBack_0 4 rfl rfl)
theorem dX1_takesBack_5 : decode cX1_takesBack 5 = .ok (.invokevirtual 238, 3) := dk_182 0 238 (dk_at dksX1_takesBack_0 5 rfl rfl)
theorem dX1_takesBack_8 : decode cX1_takesBack 8 = .ok (.checkcast 81, 3) := dk_192 0 81 (dk_at dksX1_takesBack_0 8 rfl rfl)
theorem dX1_takesBack_11 : decode cX1_takesBack 11 = .ok (.astore_n 2, 1) := dk_77 (dk_at dksX1_takesBack_0 11 rfl rfl)
theorem dX1_takesBack_12 : decode cX1_takesBack 12 = .ok (.aload_n 0, 1) := dk_42 (dk_at dksX1_takesBack_0 12 rfl rfl)
theorem dX1_takesBack_13 : decode cX1_takesBack 13 = .ok (.getfield 20, 3) := dk_180 0 20 (dk_at dksX1_takesBack_0 13 rfl rfl)
theorem dX1_takesBack_16 : decode cX1_takesBack 16 = .ok (.aload_n 2, 1) := dk_44 (dk_at dksX1_takesBack_0 16 rfl rfl)
theorem dX1_takesBack_17 : decode cX1_takesBack 17 = .ok (.getfield 239, 3) := dk_180 0 239 (dk_at dksX1_takesBack_0 17 rfl rfl)
theorem dX1_takesBack_20 : decode cX1_takesBack 20 = .ok (.invokevirtual 49, 3) := dk_182 0 49 (dk_at dksX1_takesBack_0 20 rfl rfl)
theorem dX1_takesBack_23 : decode cX1_takesBack 23 = .ok (.checkcast 75, 3) := dk_192 0 75 (dk_at dksX1_takesBack_1 0 rfl rfl)
theorem dX1_takesBack_26 : decode cX1_takesBack 26 = .ok (.astore_n 3, 1) := dk_78 (dk_at dksX1_takesBack_1 3 rfl rfl)
theorem dX1_takesBack_27 : decode cX1_takesBack 27 = .ok (.aload_n 2, 1) := dk_44 (dk_at dksX1_takesBack_1 4 rfl rfl)
theorem dX1_takesBack_28 : decode cX1_takesBack 28 = .ok (.getfield 242, 3) := dk_180 0 242 (dk_at dksX1_takesBack_1 5 rfl rfl)
theorem dX1_takesBack_31 : decode cX1_takesBack 31 = .ok (.bipush 11, 2) := dk_16 11 (dk_at dksX1_takesBack_1 8 rfl rfl)
theorem dX1_takesBack_33 : decode cX1_takesBack 33 = .ok (.iload_n 1, 1) := dk_27 (dk_at dksX1_takesBack_1 10 rfl rfl)
theorem dX1_takesBack_34 : decode cX1_takesBack 34 = .ok (.invokestatic 133, 3) := dk_184 0 133 (dk_at dksX1_takesBack_1 11 rfl rfl)
theorem dX1_takesBack_37 : decode cX1_takesBack 37 = .ok (.aload_n 3, 1) := dk_45 (dk_at dksX1_takesBack_1 14 rfl rfl)
theorem dX1_takesBack_38 : decode cX1_takesBack 38 = .ok (.aload_n 2, 1) := dk_44 (dk_at dksX1_takesBack_1 15 rfl rfl)
theorem dX1_takesBack_39 : decode cX1_takesBack 39 = .ok (.getfield 246, 3) := dk_180 0 246 (dk_at dksX1_takesBack_1 16 rfl rfl)
theorem dX1_takesBack_42 : decode cX1_takesBack 42 = .ok (.invokevirtual 137, 3) := dk_182 0 137 (dk_at dksX1_takesBack_1 19 rfl rfl)
theorem dX1_takesBack_45 : decode cX1_takesBack 45 = .ok (.ifCond .ne 7, 3) := dk_154 0 7 (dk_at dksX1_takesBack_2 0 rfl rfl)
theorem dX1_takesBack_48 : decode cX1_takesBack 48 = .ok (.iconst 1, 1) := dk_4 (dk_at dksX1_takesBack_2 3 rfl rfl)
theorem dX1_takesBack_49 : decode cX1_takesBack 49 = .ok (.goto 4, 3) := dk_167 0 4 (dk_at dksX1_takesBack_2 4 rfl rfl)
theorem dX1_takesBack_52 : decode cX1_takesBack 52 = .ok (.iconst 0, 1) := dk_3 (dk_at dksX1_takesBack_2 7 rfl rfl)
theorem dX1_takesBack_53 : decode cX1_takesBack 53 = .ok (.bipush 12, 2) := dk_16 12 (dk_at dksX1_takesBack_2 8 rfl rfl)
theorem dX1_takesBack_55 : decode cX1_takesBack 55 = .ok (.aload_n 2, 1) := dk_44 (dk_at dksX1_takesBack_2 10 rfl rfl)
theorem dX1_takesBack_56 : decode cX1_takesBack 56 = .ok (.getfield 246, 3) := dk_180 0 246 (dk_at dksX1_takesBack_2 11 rfl rfl)
theorem dX1_takesBack_59 : decode cX1_takesBack 59 = .ok (.invokestatic 133, 3) := dk_184 0 133 (dk_at dksX1_takesBack_2 14 rfl rfl)
theorem dX1_takesBack_62 : decode cX1_takesBack 62 = .ok (.aload_n 0, 1) := dk_42 (dk_at dksX1_takesBack_2 17 rfl rfl)
theorem dX1_takesBack_63 : decode cX1_takesBack 63 = .ok (.getfield 100, 3) := dk_180 0 100 (dk_at dksX1_takesBack_2 18 rfl rfl)
theorem dX1_takesBack_66 : decode cX1_takesBack 66 = .ok (.aload_n 2, 1) := dk_44 (dk_at dksX1_takesBack_2 21 rfl rfl)
theorem dX1_takesBack_67 : decode cX1_takesBack 67 = .ok (.getfield 247, 3) := dk_180 0 247 (dk_at dksX1_takesBack_3 0 rfl rfl)
theorem dX1_takesBack_70 : decode cX1_takesBack 70 = .ok (.isub, 1) := dk_100 (dk_at dksX1_takesBack_3 3 rfl rfl)
theorem dX1_takesBack_71 : decode cX1_takesBack 71 = .ok (.bipush 7, 2) := dk_16 7 (dk_at dksX1_takesBack_3 4 rfl rfl)
theorem dX1_takesBack_73 : decode cX1_takesBack 73 = .ok (.if_icmp .le 7, 3) := dk_164 0 7 (dk_at dksX1_takesBack_3 6 rfl rfl)
theorem dX1_takesBack_76 : decode cX1_takesBack 76 = .ok (.iconst 1, 1) := dk_4 (dk_at dksX1_takesBack_3 9 rfl rfl)
theorem dX1_takesBack_77 : decode cX1_takesBack 77 = .ok (.goto 4, 3) := dk_167 0 4 (dk_at dksX1_takesBack_3 10 rfl rfl)
theorem dX1_takesBack_80 : decode cX1_takesBack 80 = .ok (.iconst 0, 1) := dk_3 (dk_at dksX1_takesBack_3 13 rfl rfl)
theorem dX1_takesBack_81 : decode cX1_takesBack 81 = .ok (.bipush 13, 2) := dk_16 13 (dk_at dksX1_takesBack_3 14 rfl rfl)
theorem dX1_takesBack_83 : decode cX1_takesBack 83 = .ok (.aload_n 0, 1) := dk_42 (dk_at dksX1_takesBack_3 16 rfl rfl)
theorem dX1_takesBack_84 : decode cX1_takesBack 84 = .ok (.getfield 100, 3) := dk_180 0 100 (dk_at dksX1_takesBack_3 17 rfl rfl)
theorem dX1_takesBack_87 : decode cX1_takesBack 87 = .ok (.aload_n 2, 1) := dk_44 (dk_at dksX1_takesBack_3 20 rfl rfl)
theorem dX1_takesBack_88 : decode cX1_takesBack 88 = .ok (.getfield 247, 3) := dk_180 0 247 (dk_at dksX1_takesBack_3 21 rfl rfl)
theorem dX1_takesBack_91 : decode cX1_takesBack 91 = .ok (.isub, 1) := dk_100 (dk_at dksX1_takesBack_4 0 rfl rfl)
theorem dX1_takesBack_92 : decode cX1_takesBack 92 = .ok (.invokestatic 133, 3) := dk_184 0 133 (dk_at dksX1_takesBack_4 1 rfl rfl)
theorem dX1_takesBack_95 : decode cX1_takesBack 95 = .ok (.aload_n 0, 1) := dk_42 (dk_at dksX1_takesBack_4 4 rfl rfl)
theorem dX1_takesBack_96 : decode cX1_takesBack 96 = .ok (.aload_n 2, 1) := dk_44 (dk_at dksX1_takesBack_4 5 rfl rfl)
theorem dX1_takesBack_97 : decode cX1_takesBack 97 = .ok (.invokevirtual 236, 3) := dk_182 0 236 (dk_at dksX1_takesBack_4 6 rfl rfl)
theorem dX1_takesBack_100 : decode cX1_takesBack 100 = .ok (.invokevirtual 151, 3) := dk_182 0 151 (dk_at dksX1_takesBack_4 9 rfl rfl)
theorem dX1_takesBack_103 : decode cX1_takesBack 103 = .ok (.aload_n 0, 1) := dk_42 (dk_at dksX1_takesBack_4 12 rfl rfl)
theorem dX1_takesBack_104 : decode cX1_takesBack 104 = .ok (.dup, 1) := dk_89 (dk_at dksX1_takesBack_4 13 rfl rfl)
theorem dX1_takesBack_105 : decode cX1_takesBack 105 = .ok (.getfield 109, 3) := dk_180 0 109 (dk_at dksX1_takesBack_4 14 rfl rfl)
theorem dX1_takesBack_108 : decode cX1_takesBack 108 = .ok (.aload_n 2, 1) := dk_44 (dk_at dksX1_takesBack_4 17 rfl rfl)
theorem dX1_takesBack_109 : decode cX1_takesBack 109 = .ok (.invokevirtual 236, 3) := dk_182 0 236 (dk_at dksX1_takesBack_4 18 rfl rfl)
theorem dX1_takesBack_112 : decode cX1_takesBack 112 = .ok (.iadd, 1) := dk_96 (dk_at dksX1_takesBack_4 21 rfl rfl)
theorem dX1_takesBack_113 : decode cX1_takesBack 113 = .ok (.putfield 109, 3) := dk_181 0 109 (dk_at dksX1_takesBack_5 0 rfl rfl)
theorem dX1_takesBack_116 : decode cX1_takesBack 116 = .ok (.aload_n 2, 1) := dk_44 (dk_at dksX1_takesBack_5 3 rfl rfl)
theorem dX1_takesBack_117 : decode cX1_takesBack 117 = .ok (.getfield 231, 3) := dk_180 0 231 (dk_at dksX1_takesBack_5 4 rfl rfl)
theorem dX1_takesBack_120 : decode cX1_takesBack 120 = .ok (.aload_n 3, 1) := dk_45 (dk_at dksX1_takesBack_5 7 rfl rfl)
theorem dX1_takesBack_121 : decode cX1_takesBack 121 = .ok (.aload_n 2, 1) := dk_44 (dk_at dksX1_takesBack_5 8 rfl rfl)
theorem dX1_takesBack_122 : decode cX1_takesBack 122 = .ok (.getfield 228, 3) := dk_180 0 228 (dk_at dksX1_takesBack_5 9 rfl rfl)
theorem dX1_takesBack_125 : decode cX1_takesBack 125 = .ok (.invokevirtual 154, 3) := dk_182 0 154 (dk_at dksX1_takesBack_5 12 rfl rfl)
theorem dX1_takesBack_128 : decode cX1_takesBack 128 = .ok (.invokestatic 207, 3) := dk_184 0 207 (dk_at dksX1_takesBack_5 15 rfl rfl)
theorem dX1_takesBack_131 : decode cX1_takesBack 131 = .ok (.istore 4, 2) := dk_54 4 (dk_at dksX1_takesBack_5 18 rfl rfl)
theorem dX1_takesBack_133 : decode cX1_takesBack 133 = .ok (.aload_n 3, 1) := dk_45 (dk_at dksX1_takesBack_5 20 rfl rfl)
theorem dX1_takesBack_134 : decode cX1_takesBack 134 = .ok (.getfield 158, 3) := dk_180 0 158 (dk_at dksX1_takesBack_5 21 rfl rfl)
theorem dX1_takesBack_137 : decode cX1_takesBack 137 = .ok (.aload_n 2, 1) := dk_44 (dk_at dksX1_takesBack_6 0 rfl rfl)
theorem dX1_takesBack_138 : decode cX1_takesBack 138 = .ok (.getfield 228, 3) := dk_180 0 228 (dk_at dksX1_takesBack_6 1 rfl rfl)
theorem dX1_takesBack_141 : decode cX1_takesBack 141 = .ok (.dup2, 1) := dk_92 (dk_at dksX1_takesBack_6 4 rfl rfl)
theorem dX1_takesBack_142 : decode cX1_takesBack 142 = .ok (.iaload, 1) := dk_46 (dk_at dksX1_takesBack_6 5 rfl rfl)
theorem dX1_takesBack_143 : decode cX1_takesBack 143 = .ok (.iload 4, 2) := dk_21 4 (dk_at dksX1_takesBack_6 6 rfl rfl)
theorem dX1_takesBack_145 : decode cX1_takesBack 145 = .ok (.iadd, 1) := dk_96 (dk_at dksX1_takesBack_6 8 rfl rfl)
theorem dX1_takesBack_146 : decode cX1_takesBack 146 = .ok (.iastore, 1) := dk_79 (dk_at dksX1_takesBack_6 9 rfl rfl)
theorem dX1_takesBack_147 : decode cX1_takesBack 147 = .ok (.aload_n 0, 1) := dk_42 (dk_at dksX1_takesBack_6 10 rfl rfl)
theorem dX1_takesBack_148 : decode cX1_takesBack 148 = .ok (.dup, 1) := dk_89 (dk_at dksX1_takesBack_6 11 rfl rfl)
theorem dX1_takesBack_149 : decode cX1_takesBack 149 = .ok (.getfield 115, 3) := dk_180 0 115 (dk_at dksX1_takesBack_6 12 rfl rfl)
theorem dX1_takesBack_152 : decode cX1_takesBack 152 = .ok (.aload_n 2, 1) := dk_44 (dk_at dksX1_takesBack_6 15 rfl rfl)
theorem dX1_takesBack_153 : decode cX1_takesBack 153 = .ok (.getfield 231, 3) := dk_180 0 231 (dk_at dksX1_takesBack_6 16 rfl rfl)
theorem dX1_takesBack_156 : decode cX1_takesBack 156 = .ok (.iload 4, 2) := dk_21 4 (dk_at dksX1_takesBack_6 19 rfl rfl)
theorem dX1_takesBack_158 : decode cX1_takesBack 158 = .ok (.isub, 1) := dk_100 (dk_at dksX1_takesBack_6 21 rfl rfl)
theorem dX1_takesBack_159 : decode cX1_takesBack 159 = .ok (.iadd, 1) := dk_96 (dk_at dksX1_takesBack_6 22 rfl rfl)
theorem dX1_takesBack_160 : decode cX1_takesBack 160 = .ok (.putfield 115, 3) := dk_181 0 115 (dk_at dksX1_takesBack_7 0 rfl rfl)
theorem dX1_takesBack_163 : decode cX1_takesBack 163 = .ok (.aload_n 3, 1) := dk_45 (dk_at dksX1_takesBack_7 3 rfl rfl)
theorem dX1_takesBack_164 : decode cX1_takesBack 164 = .ok (.dup, 1) := dk_89 (dk_at dksX1_takesBack_7 4 rfl rfl)
theorem dX1_takesBack_165 : decode cX1_takesBack 165 = .ok (.getfield 248, 3) := dk_180 0 248 (dk_at dksX1_takesBack_7 5 rfl rfl)
theorem dX1_takesBack_168 : decode cX1_takesBack 168 = .ok (.aload_n 2, 1) := dk_44 (dk_at dksX1_takesBack_7 8 rfl rfl)
theorem dX1_takesBack_169 : decode cX1_takesBack 169 = .ok (.getfield 231, 3) := dk_180 0 231 (dk_at dksX1_takesBack_7 9 rfl rfl)
theorem dX1_takesBack_172 : decode cX1_takesBack 172 = .ok (.iadd, 1) := dk_96 (dk_at dksX1_takesBack_7 12 rfl rfl)
theorem dX1_takesBack_173 : decode cX1_takesBack 173 = .ok (.putfield 248, 3) := dk_181 0 248 (dk_at dksX1_takesBack_7 13 rfl rfl)
theorem dX1_takesBack_176 : decode cX1_takesBack 176 = .ok (.aload_n 0, 1) := dk_42 (dk_at dksX1_takesBack_7 16 rfl rfl)
theorem dX1_takesBack_177 : decode cX1_takesBack 177 = .ok (.getfield 14, 3) := dk_180 0 14 (dk_at dksX1_takesBack_7 17 rfl rfl)
theorem dX1_takesBack_180 : decode cX1_takesBack 180 = .ok (.aload_n 2, 1) := dk_44 (dk_at dksX1_takesBack_7 20 rfl rfl)
theorem dX1_takesBack_181 : decode cX1_takesBack 181 = .ok (.getfield 246, 3) := dk_180 0 246 (dk_at dksX1_takesBack_7 21 rfl rfl)
theorem dX1_takesBack_184 : decode cX1_takesBack 184 = .ok (.invokevirtual 49, 3) := dk_182 0 49 (dk_at dksX1_takesBack_8 0 rfl rfl)
theorem dX1_takesBack_187 : decode cX1_takesBack 187 = .ok (.checkcast 38, 3) := dk_192 0 38 (dk_at dksX1_takesBack_8 3 rfl rfl)
theorem dX1_takesBack_190 : decode cX1_takesBack 190 = .ok (.iconst 2, 1) := dk_5 (dk_at dksX1_takesBack_8 6 rfl rfl)
theorem dX1_takesBack_191 : decode cX1_takesBack 191 = .ok (.invokevirtual 214, 3) := dk_182 0 214 (dk_at dksX1_takesBack_8 7 rfl rfl)
theorem dX1_takesBack_194 : decode cX1_takesBack 194 = .ok (.aload_n 2, 1) := dk_44 (dk_at dksX1_takesBack_8 10 rfl rfl)
theorem dX1_takesBack_195 : decode cX1_takesBack 195 = .ok (.iconst 1, 1) := dk_4 (dk_at dksX1_takesBack_8 11 rfl rfl)
theorem dX1_takesBack_196 : decode cX1_takesBack 196 = .ok (.putfield 242, 3) := dk_181 0 242 (dk_at dksX1_takesBack_8 12 rfl rfl)
theorem dX1_takesBack_199 : decode cX1_takesBack 199 = .ok (.aload_n 2, 1) := dk_44 (dk_at dksX1_takesBack_8 15 rfl rfl)
theorem dX1_takesBack_200 : decode cX1_takesBack 200 = .ok (.invokevirtual 236, 3) := dk_182 0 236 (dk_at dksX1_takesBack_8 16 rfl rfl)
theorem dX1_takesBack_203 : decode cX1_takesBack 203 = .ok (.ireturn, 1) := dk_172 (dk_at dksX1_takesBack_8 19 rfl rfl)
abbrev cX1_dayEnds : ByteArray := prog_2_method_24_code
def yX1_dayEnds : MethodName := ⟨RX1, "dayEnds", "()I"⟩
def dkwX1_dayEnds_2 : List UInt8 := [181, 0, 100, 42, 180, 0, 100, 172]
abbrev dktX1_dayEnds_2 : List UInt8 := dkwX1_dayEnds_2 ++ []
def dkwX1_dayEnds_1 : List UInt8 := [185, 0, 71, 1, 0, 192, 0, 38, 77, 44, 182, 0, 251, 167, 255, 233, 42, 89, 180, 0, 100, 4, 96]
abbrev dktX1_dayEnds_1 : List UInt8 := dkwX1_dayEnds_1 ++ dktX1_dayEnds_2
def dkwX1_dayEnds_0 : List UInt8 := [42, 3, 181, 0, 103, 42, 180, 0, 14, 182, 0, 61, 76, 43, 185, 0, 65, 1, 0, 153, 0, 20, 43]
abbrev dktX1_dayEnds_0 : List UInt8 := dkwX1_dayEnds_0 ++ dktX1_dayEnds_1
theorem dksX1_dayEnds_0 : cX1_dayEnds.data.toList.drop 0 = dktX1_dayEnds_0 := by decide +kernel
theorem dksX1_dayEnds_1 : cX1_dayEnds.data.toList.drop 23 = dktX1_dayEnds_1 := dk_seg dksX1_dayEnds_0 23 rfl rfl
theorem dksX1_dayEnds_2 : cX1_dayEnds.data.toList.drop 46 = dktX1_dayEnds_2 := dk_seg dksX1_dayEnds_1 23 rfl rfl
theorem dX1_dayEnds_0 : decode cX1_dayEnds 0 = .ok (.aload_n 0, 1) := dk_42 (dk_at dksX1_dayEnds_0 0 rfl rfl)
theorem dX1_dayEnds_1 : decode cX1_dayEnds 1 = .ok (.iconst 0, 1) := dk_3 (dk_at dksX1_dayEnds_0 1 rfl rfl)
theorem dX1_dayEnds_2 : decode cX1_dayEnds 2 = .ok (.putfield 103, 3) := dk_181 0 103 (dk_at dksX1_dayEnds_0 2 rfl rfl)
theorem dX1_dayEnds_5 : decode cX1_dayEnds 5 = .ok (.aload_n 0, 1) := dk_42 (dk_at dksX1_dayEnds_0 5 rfl rfl)
theorem dX1_dayEnds_6 : decode cX1_dayEnds 6 = .ok (.getfield 14, 3) := dk_180 0 14 (dk_at dksX1_dayEnds_0 6 rfl rfl)
theorem dX1_dayEnds_9 : decode cX1_dayEnds 9 = .ok (.invokevirtual 61, 3) := dk_182 0 61 (dk_at dksX1_dayEnds_0 9 rfl rfl)
theorem dX1_dayEnds_12 : decode cX1_dayEnds 12 = .ok (.astore_n 1, 1) := dk_76 (dk_at dksX1_dayEnds_0 12 rfl rfl)
theorem dX1_dayEnds_13 : decode cX1_dayEnds 13 = .ok (.aload_n 1, 1) := dk_43 (dk_at dksX1_dayEnds_0 13 rfl rfl)
theorem dX1_dayEnds_14 : decode cX1_dayEnds 14 = .ok (.invokeinterface 65 1, 5) := by decide +kernel
theorem dX1_dayEnds_19 : decode cX1_dayEnds 19 = .ok (.ifCond .eq 20, 3) := dk_153 0 20 (dk_at dksX1_dayEnds_0 19 rfl rfl)
theorem dX1_dayEnds_22 : decode cX1_dayEnds 22 = .ok (.aload_n 1, 1) := dk_43 (dk_at dksX1_dayEnds_0 22 rfl rfl)
theorem dX1_dayEnds_23 : decode cX1_dayEnds 23 = .ok (.invokeinterface 71 1, 5) := by decide +kernel
theorem dX1_dayEnds_28 : decode cX1_dayEnds 28 = .ok (.checkcast 38, 3) := dk_192 0 38 (dk_at dksX1_dayEnds_1 5 rfl rfl)
theorem dX1_dayEnds_31 : decode cX1_dayEnds 31 = .ok (.astore_n 2, 1) := dk_77 (dk_at dksX1_dayEnds_1 8 rfl rfl)
theorem dX1_dayEnds_32 : decode cX1_dayEnds 32 = .ok (.aload_n 2, 1) := dk_44 (dk_at dksX1_dayEnds_1 9 rfl rfl)
theorem dX1_dayEnds_33 : decode cX1_dayEnds 33 = .ok (.invokevirtual 251, 3) := dk_182 0 251 (dk_at dksX1_dayEnds_1 10 rfl rfl)
theorem dX1_dayEnds_36 : decode cX1_dayEnds 36 = .ok (.goto (-23), 3) := dk_167 255 233 (dk_at dksX1_dayEnds_1 13 rfl rfl)
theorem dX1_dayEnds_39 : decode cX1_dayEnds 39 = .ok (.aload_n 0, 1) := dk_42 (dk_at dksX1_dayEnds_1 16 rfl rfl)
theorem dX1_dayEnds_40 : decode cX1_dayEnds 40 = .ok (.dup, 1) := dk_89 (dk_at dksX1_dayEnds_1 17 rfl rfl)
theorem dX1_dayEnds_41 : decode cX1_dayEnds 41 = .ok (.getfield 100, 3) := dk_180 0 100 (dk_at dksX1_dayEnds_1 18 rfl rfl)
theorem dX1_dayEnds_44 : decode cX1_dayEnds 44 = .ok (.iconst 1, 1) := dk_4 (dk_at dksX1_dayEnds_1 21 rfl rfl)
theorem dX1_dayEnds_45 : decode cX1_dayEnds 45 = .ok (.iadd, 1) := dk_96 (dk_at dksX1_dayEnds_1 22 rfl rfl)
theorem dX1_dayEnds_46 : decode cX1_dayEnds 46 = .ok (.putfield 100, 3) := dk_181 0 100 (dk_at dksX1_dayEnds_2 0 rfl rfl)
theorem dX1_dayEnds_49 : decode cX1_dayEnds 49 = .ok (.aload_n 0, 1) := dk_42 (dk_at dksX1_dayEnds_2 3 rfl rfl)
theorem dX1_dayEnds_50 : decode cX1_dayEnds 50 = .ok (.getfield 100, 3) := dk_180 0 100 (dk_at dksX1_dayEnds_2 4 rfl rfl)
theorem dX1_dayEnds_53 : decode cX1_dayEnds 53 = .ok (.ireturn, 1) := dk_172 (dk_at dksX1_dayEnds_2 7 rfl rfl)
abbrev cX1_streetTold : ByteArray := prog_2_method_31_code
def yX1_streetTold : MethodName := ⟨RX1, "streetTold", "()Ljava/lang/String;"⟩
def dkwX1_streetTold_2 : List UInt8 := [167, 255, 228, 43, 182, 1, 25, 176]
abbrev dktX1_streetTold_2 : List UInt8 := dkwX1_streetTold_2 ++ []
def dkwX1_streetTold_1 : List UInt8 := [153, 0, 25, 44, 185, 0, 71, 1, 0, 192, 0, 38, 78, 43, 45, 182, 1, 17, 182, 1, 21, 87]
abbrev dktX1_streetTold_1 : List UInt8 := dkwX1_streetTold_1 ++ dktX1_streetTold_2
def dkwX1_streetTold_0 : List UInt8 := [187, 1, 14, 89, 183, 1, 16, 76, 42, 180, 0, 14, 182, 0, 61, 77, 44, 185, 0, 65, 1, 0]
abbrev dktX1_streetTold_0 : List UInt8 := dkwX1_streetTold_0 ++ dktX1_streetTold_1
theorem dksX1_streetTold_0 : cX1_streetTold.data.toList.drop 0 = dktX1_streetTold_0 := by decide +kernel
theorem dksX1_streetTold_1 : cX1_streetTold.data.toList.drop 22 = dktX1_streetTold_1 := dk_seg dksX1_streetTold_0 22 rfl rfl
theorem dksX1_streetTold_2 : cX1_streetTold.data.toList.drop 44 = dktX1_streetTold_2 := dk_seg dksX1_streetTold_1 22 rfl rfl
theorem dX1_streetTold_0 : decode cX1_streetTold 0 = .ok (.new 270, 3) := dk_187 1 14 (dk_at dksX1_streetTold_0 0 rfl rfl)
theorem dX1_streetTold_3 : decode cX1_streetTold 3 = .ok (.dup, 1) := dk_89 (dk_at dksX1_streetTold_0 3 rfl rfl)
theorem dX1_streetTold_4 : decode cX1_streetTold 4 = .ok (.invokespecial 272, 3) := dk_183 1 16 (dk_at dksX1_streetTold_0 4 rfl rfl)
theorem dX1_streetTold_7 : decode cX1_streetTold 7 = .ok (.astore_n 1, 1) := dk_76 (dk_at dksX1_streetTold_0 7 rfl rfl)
theorem dX1_streetTold_8 : decode cX1_streetTold 8 = .ok (.aload_n 0, 1) := dk_42 (dk_at dksX1_streetTold_0 8 rfl rfl)
theorem dX1_streetTold_9 : decode cX1_streetTold 9 = .ok (.getfield 14, 3) := dk_180 0 14 (dk_at dksX1_streetTold_0 9 rfl rfl)
theorem dX1_streetTold_12 : decode cX1_streetTold 12 = .ok (.invokevirtual 61, 3) := dk_182 0 61 (dk_at dksX1_streetTold_0 12 rfl rfl)
theorem dX1_streetTold_15 : decode cX1_streetTold 15 = .ok (.astore_n 2, 1) := dk_77 (dk_at dksX1_streetTold_0 15 rfl rfl)
theorem dX1_streetTold_16 : decode cX1_streetTold 16 = .ok (.aload_n 2, 1) := dk_44 (dk_at dksX1_streetTold_0 16 rfl rfl)
theorem dX1_streetTold_17 : decode cX1_streetTold 17 = .ok (.invokeinterface 65 1, 5) := by decide +kernel
theorem dX1_streetTold_22 : decode cX1_streetTold 22 = .ok (.ifCond .eq 25, 3) := dk_153 0 25 (dk_at dksX1_streetTold_1 0 rfl rfl)
theorem dX1_streetTold_25 : decode cX1_streetTold 25 = .ok (.aload_n 2, 1) := dk_44 (dk_at dksX1_streetTold_1 3 rfl rfl)
theorem dX1_streetTold_26 : decode cX1_streetTold 26 = .ok (.invokeinterface 71 1, 5) := by decide +kernel
theorem dX1_streetTold_31 : decode cX1_streetTold 31 = .ok (.checkcast 38, 3) := dk_192 0 38 (dk_at dksX1_streetTold_1 9 rfl rfl)
theorem dX1_streetTold_34 : decode cX1_streetTold 34 = .ok (.astore_n 3, 1) := dk_78 (dk_at dksX1_streetTold_1 12 rfl rfl)
theorem dX1_streetTold_35 : decode cX1_streetTold 35 = .ok (.aload_n 1, 1) := dk_43 (dk_at dksX1_streetTold_1 13 rfl rfl)
theorem dX1_streetTold_36 : decode cX1_streetTold 36 = .ok (.aload_n 3, 1) := dk_45 (dk_at dksX1_streetTold_1 14 rfl rfl)
theorem dX1_streetTold_37 : decode cX1_streetTold 37 = .ok (.invokevirtual 273, 3) := dk_182 1 17 (dk_at dksX1_streetTold_1 15 rfl rfl)
theorem dX1_streetTold_40 : decode cX1_streetTold 40 = .ok (.invokevirtual 277, 3) := dk_182 1 21 (dk_at dksX1_streetTold_1 18 rfl rfl)
theorem dX1_streetTold_43 : decode cX1_streetTold 43 = .ok (.pop, 1) := dk_87 (dk_at dksX1_streetTold_1 21 rfl rfl)
theorem dX1_streetTold_44 : decode cX1_streetTold 44 = .ok (.goto (-28), 3) := dk_167 255 228 (dk_at dksX1_streetTold_2 0 rfl rfl)
theorem dX1_streetTold_47 : decode cX1_streetTold 47 = .ok (.aload_n 1, 1) := dk_43 (dk_at dksX1_streetTold_2 3 rfl rfl)
theorem dX1_streetTold_48 : decode cX1_streetTold 48 = .ok (.invokevirtual 281, 3) := dk_182 1 25 (dk_at dksX1_streetTold_2 4 rfl rfl)
theorem dX1_streetTold_51 : decode cX1_streetTold 51 = .ok (.areturn, 1) := dk_176 (dk_at dksX1_streetTold_2 7 rfl rfl)
abbrev cX1_inDepot : ByteArray := prog_2_method_25_code
def yX1_inDepot : MethodName := ⟨RX1, "inDepot", "()I"⟩
def dkwX1_inDepot_0 : List UInt8 := [42, 180, 0, 30, 3, 46, 42, 180, 0, 30, 4, 46, 96, 42, 180, 0, 30, 5, 46, 96, 172]
abbrev dktX1_inDepot_0 : List UInt8 := dkwX1_inDepot_0 ++ []
theorem dksX1_inDepot_0 : cX1_inDepot.data.toList.drop 0 = dktX1_inDepot_0 := by decide +kernel
theorem dX1_inDepot_0 : decode cX1_inDepot 0 = .ok (.aload_n 0, 1) := dk_42 (dk_at dksX1_inDepot_0 0 rfl rfl)
theorem dX1_inDepot_1 : decode cX1_inDepot 1 = .ok (.getfield 30, 3) := dk_180 0 30 (dk_at dksX1_inDepot_0 1 rfl rfl)
theorem dX1_inDepot_4 : decode cX1_inDepot 4 = .ok (.iconst 0, 1) := dk_3 (dk_at dksX1_inDepot_0 4 rfl rfl)
theorem dX1_inDepot_5 : decode cX1_inDepot 5 = .ok (.iaload, 1) := dk_46 (dk_at dksX1_inDepot_0 5 rfl rfl)
theorem dX1_inDepot_6 : decode cX1_inDepot 6 = .ok (.aload_n 0, 1) := dk_42 (dk_at dksX1_inDepot_0 6 rfl rfl)
theorem dX1_inDepot_7 : decode cX1_inDepot 7 = .ok (.getfield 30, 3) := dk_180 0 30 (dk_at dksX1_inDepot_0 7 rfl rfl)
theorem dX1_inDepot_10 : decode cX1_inDepot 10 = .ok (.iconst 1, 1) := dk_4 (dk_at dksX1_inDepot_0 10 rfl rfl)
theorem dX1_inDepot_11 : decode cX1_inDepot 11 = .ok (.iaload, 1) := dk_46 (dk_at dksX1_inDepot_0 11 rfl rfl)
theorem dX1_inDepot_12 : decode cX1_inDepot 12 = .ok (.iadd, 1) := dk_96 (dk_at dksX1_inDepot_0 12 rfl rfl)
theorem dX1_inDepot_13 : decode cX1_inDepot 13 = .ok (.aload_n 0, 1) := dk_42 (dk_at dksX1_inDepot_0 13 rfl rfl)
theorem dX1_inDepot_14 : decode cX1_inDepot 14 = .ok (.getfield 30, 3) := dk_180 0 30 (dk_at dksX1_inDepot_0 14 rfl rfl)
theorem dX1_inDepot_17 : decode cX1_inDepot 17 = .ok (.iconst 2, 1) := dk_5 (dk_at dksX1_inDepot_0 17 rfl rfl)
theorem dX1_inDepot_18 : decode cX1_inDepot 18 = .ok (.iaload, 1) := dk_46 (dk_at dksX1_inDepot_0 18 rfl rfl)
theorem dX1_inDepot_19 : decode cX1_inDepot 19 = .ok (.iadd, 1) := dk_96 (dk_at dksX1_inDepot_0 19 rfl rfl)
theorem dX1_inDepot_20 : decode cX1_inDepot 20 = .ok (.ireturn, 1) := dk_172 (dk_at dksX1_inDepot_0 20 rfl rfl)
abbrev cX1_inCases : ByteArray := prog_2_method_26_code
def yX1_inCases : MethodName := ⟨RX1, "inCases", "()I"⟩
def dkwX1_inCases_1 : List UInt8 := [185, 0, 71, 1, 0, 192, 0, 75, 78, 27, 45, 182, 0, 254, 96, 60, 167, 255, 230, 27, 172]
abbrev dktX1_inCases_1 : List UInt8 := dkwX1_inCases_1 ++ []
def dkwX1_inCases_0 : List UInt8 := [3, 60, 42, 180, 0, 20, 182, 0, 61, 77, 44, 185, 0, 65, 1, 0, 153, 0, 23, 44]
abbrev dktX1_inCases_0 : List UInt8 := dkwX1_inCases_0 ++ dktX1_inCases_1
theorem dksX1_inCases_0 : cX1_inCases.data.toList.drop 0 = dktX1_inCases_0 := by decide +kernel
theorem dksX1_inCases_1 : cX1_inCases.data.toList.drop 20 = dktX1_inCases_1 := dk_seg dksX1_inCases_0 20 rfl rfl
theorem dX1_inCases_0 : decode cX1_inCases 0 = .ok (.iconst 0, 1) := dk_3 (dk_at dksX1_inCases_0 0 rfl rfl)
theorem dX1_inCases_1 : decode cX1_inCases 1 = .ok (.istore_n 1, 1) := dk_60 (dk_at dksX1_inCases_0 1 rfl rfl)
theorem dX1_inCases_2 : decode cX1_inCases 2 = .ok (.aload_n 0, 1) := dk_42 (dk_at dksX1_inCases_0 2 rfl rfl)
theorem dX1_inCases_3 : decode cX1_inCases 3 = .ok (.getfield 20, 3) := dk_180 0 20 (dk_at dksX1_inCases_0 3 rfl rfl)
theorem dX1_inCases_6 : decode cX1_inCases 6 = .ok (.invokevirtual 61, 3) := dk_182 0 61 (dk_at dksX1_inCases_0 6 rfl rfl)
theorem dX1_inCases_9 : decode cX1_inCases 9 = .ok (.astore_n 2, 1) := dk_77 (dk_at dksX1_inCases_0 9 rfl rfl)
theorem dX1_inCases_10 : decode cX1_inCases 10 = .ok (.aload_n 2, 1) := dk_44 (dk_at dksX1_inCases_0 10 rfl rfl)
theorem dX1_inCases_11 : decode cX1_inCases 11 = .ok (.invokeinterface 65 1, 5) := by decide +kernel
theorem dX1_inCases_16 : decode cX1_inCases 16 = .ok (.ifCond .eq 23, 3) := dk_153 0 23 (dk_at dksX1_inCases_0 16 rfl rfl)
theorem dX1_inCases_19 : decode cX1_inCases 19 = .ok (.aload_n 2, 1) := dk_44 (dk_at dksX1_inCases_0 19 rfl rfl)
theorem dX1_inCases_20 : decode cX1_inCases 20 = .ok (.invokeinterface 71 1, 5) := by decide +kernel
theorem dX1_inCases_25 : decode cX1_inCases 25 = .ok (.checkcast 75, 3) := dk_192 0 75 (dk_at dksX1_inCases_1 5 rfl rfl)
theorem dX1_inCases_28 : decode cX1_inCases 28 = .ok (.astore_n 3, 1) := dk_78 (dk_at dksX1_inCases_1 8 rfl rfl)
theorem dX1_inCases_29 : decode cX1_inCases 29 = .ok (.iload_n 1, 1) := dk_27 (dk_at dksX1_inCases_1 9 rfl rfl)
theorem dX1_inCases_30 : decode cX1_inCases 30 = .ok (.aload_n 3, 1) := dk_45 (dk_at dksX1_inCases_1 10 rfl rfl)
theorem dX1_inCases_31 : decode cX1_inCases 31 = .ok (.invokevirtual 254, 3) := dk_182 0 254 (dk_at dksX1_inCases_1 11 rfl rfl)
theorem dX1_inCases_34 : decode cX1_inCases 34 = .ok (.iadd, 1) := dk_96 (dk_at dksX1_inCases_1 14 rfl rfl)
theorem dX1_inCases_35 : decode cX1_inCases 35 = .ok (.istore_n 1, 1) := dk_60 (dk_at dksX1_inCases_1 15 rfl rfl)
theorem dX1_inCases_36 : decode cX1_inCases 36 = .ok (.goto (-26), 3) := dk_167 255 230 (dk_at dksX1_inCases_1 16 rfl rfl)
theorem dX1_inCases_39 : decode cX1_inCases 39 = .ok (.iload_n 1, 1) := dk_27 (dk_at dksX1_inCases_1 19 rfl rfl)
theorem dX1_inCases_40 : decode cX1_inCases 40 = .ok (.ireturn, 1) := dk_172 (dk_at dksX1_inCases_1 20 rfl rfl)
abbrev cX1_sold : ByteArray := prog_2_method_27_code
def yX1_sold : MethodName := ⟨RX1, "sold", "()I"⟩
def dkwX1_sold_1 : List UInt8 := [185, 0, 71, 1, 0, 192, 0, 75, 78, 27, 45, 180, 0, 233, 96, 60, 167, 255, 230, 27, 172]
abbrev dktX1_sold_1 : List UInt8 := dkwX1_sold_1 ++ []
def dkwX1_sold_0 : List UInt8 := [3, 60, 42, 180, 0, 20, 182, 0, 61, 77, 44, 185, 0, 65, 1, 0, 153, 0, 23, 44]
abbrev dktX1_sold_0 : List UInt8 := dkwX1_sold_0 ++ dktX1_sold_1
theorem dksX1_sold_0 : cX1_sold.data.toList.drop 0 = dktX1_sold_0 := by decide +kernel
theorem dksX1_sold_1 : cX1_sold.data.toList.drop 20 = dktX1_sold_1 := dk_seg dksX1_sold_0 20 rfl rfl
theorem dX1_sold_0 : decode cX1_sold 0 = .ok (.iconst 0, 1) := dk_3 (dk_at dksX1_sold_0 0 rfl rfl)
theorem dX1_sold_1 : decode cX1_sold 1 = .ok (.istore_n 1, 1) := dk_60 (dk_at dksX1_sold_0 1 rfl rfl)
theorem dX1_sold_2 : decode cX1_sold 2 = .ok (.aload_n 0, 1) := dk_42 (dk_at dksX1_sold_0 2 rfl rfl)
theorem dX1_sold_3 : decode cX1_sold 3 = .ok (.getfield 20, 3) := dk_180 0 20 (dk_at dksX1_sold_0 3 rfl rfl)
theorem dX1_sold_6 : decode cX1_sold 6 = .ok (.invokevirtual 61, 3) := dk_182 0 61 (dk_at dksX1_sold_0 6 rfl rfl)
theorem dX1_sold_9 : decode cX1_sold 9 = .ok (.astore_n 2, 1) := dk_77 (dk_at dksX1_sold_0 9 rfl rfl)
theorem dX1_sold_10 : decode cX1_sold 10 = .ok (.aload_n 2, 1) := dk_44 (dk_at dksX1_sold_0 10 rfl rfl)
theorem dX1_sold_11 : decode cX1_sold 11 = .ok (.invokeinterface 65 1, 5) := by decide +kernel
theorem dX1_sold_16 : decode cX1_sold 16 = .ok (.ifCond .eq 23, 3) := dk_153 0 23 (dk_at dksX1_sold_0 16 rfl rfl)
theorem dX1_sold_19 : decode cX1_sold 19 = .ok (.aload_n 2, 1) := dk_44 (dk_at dksX1_sold_0 19 rfl rfl)
theorem dX1_sold_20 : decode cX1_sold 20 = .ok (.invokeinterface 71 1, 5) := by decide +kernel
theorem dX1_sold_25 : decode cX1_sold 25 = .ok (.checkcast 75, 3) := dk_192 0 75 (dk_at dksX1_sold_1 5 rfl rfl)
theorem dX1_sold_28 : decode cX1_sold 28 = .ok (.astore_n 3, 1) := dk_78 (dk_at dksX1_sold_1 8 rfl rfl)
theorem dX1_sold_29 : decode cX1_sold 29 = .ok (.iload_n 1, 1) := dk_27 (dk_at dksX1_sold_1 9 rfl rfl)
theorem dX1_sold_30 : decode cX1_sold 30 = .ok (.aload_n 3, 1) := dk_45 (dk_at dksX1_sold_1 10 rfl rfl)
theorem dX1_sold_31 : decode cX1_sold 31 = .ok (.getfield 233, 3) := dk_180 0 233 (dk_at dksX1_sold_1 11 rfl rfl)
theorem dX1_sold_34 : decode cX1_sold 34 = .ok (.iadd, 1) := dk_96 (dk_at dksX1_sold_1 14 rfl rfl)
theorem dX1_sold_35 : decode cX1_sold 35 = .ok (.istore_n 1, 1) := dk_60 (dk_at dksX1_sold_1 15 rfl rfl)
theorem dX1_sold_36 : decode cX1_sold 36 = .ok (.goto (-26), 3) := dk_167 255 230 (dk_at dksX1_sold_1 16 rfl rfl)
theorem dX1_sold_39 : decode cX1_sold 39 = .ok (.iload_n 1, 1) := dk_27 (dk_at dksX1_sold_1 19 rfl rfl)
theorem dX1_sold_40 : decode cX1_sold 40 = .ok (.ireturn, 1) := dk_172 (dk_at dksX1_sold_1 20 rfl rfl)
abbrev cX1_back : ByteArray := prog_2_method_28_code
def yX1_back : MethodName := ⟨RX1, "back", "()I"⟩
def dkwX1_back_1 : List UInt8 := [185, 0, 71, 1, 0, 192, 0, 75, 78, 27, 45, 180, 0, 248, 96, 60, 167, 255, 230, 27, 172]
abbrev dktX1_back_1 : List UInt8 := dkwX1_back_1 ++ []
def dkwX1_back_0 : List UInt8 := [3, 60, 42, 180, 0, 20, 182, 0, 61, 77, 44, 185, 0, 65, 1, 0, 153, 0, 23, 44]
abbrev dktX1_back_0 : List UInt8 := dkwX1_back_0 ++ dktX1_back_1
theorem dksX1_back_0 : cX1_back.data.toList.drop 0 = dktX1_back_0 := by decide +kernel
theorem dksX1_back_1 : cX1_back.data.toList.drop 20 = dktX1_back_1 := dk_seg dksX1_back_0 20 rfl rfl
theorem dX1_back_0 : decode cX1_back 0 = .ok (.iconst 0, 1) := dk_3 (dk_at dksX1_back_0 0 rfl rfl)
theorem dX1_back_1 : decode cX1_back 1 = .ok (.istore_n 1, 1) := dk_60 (dk_at dksX1_back_0 1 rfl rfl)
theorem dX1_back_2 : decode cX1_back 2 = .ok (.aload_n 0, 1) := dk_42 (dk_at dksX1_back_0 2 rfl rfl)
theorem dX1_back_3 : decode cX1_back 3 = .ok (.getfield 20, 3) := dk_180 0 20 (dk_at dksX1_back_0 3 rfl rfl)
theorem dX1_back_6 : decode cX1_back 6 = .ok (.invokevirtual 61, 3) := dk_182 0 61 (dk_at dksX1_back_0 6 rfl rfl)
theorem dX1_back_9 : decode cX1_back 9 = .ok (.astore_n 2, 1) := dk_77 (dk_at dksX1_back_0 9 rfl rfl)
theorem dX1_back_10 : decode cX1_back 10 = .ok (.aload_n 2, 1) := dk_44 (dk_at dksX1_back_0 10 rfl rfl)
theorem dX1_back_11 : decode cX1_back 11 = .ok (.invokeinterface 65 1, 5) := by decide +kernel
theorem dX1_back_16 : decode cX1_back 16 = .ok (.ifCond .eq 23, 3) := dk_153 0 23 (dk_at dksX1_back_0 16 rfl rfl)
theorem dX1_back_19 : decode cX1_back 19 = .ok (.aload_n 2, 1) := dk_44 (dk_at dksX1_back_0 19 rfl rfl)
theorem dX1_back_20 : decode cX1_back 20 = .ok (.invokeinterface 71 1, 5) := by decide +kernel
theorem dX1_back_25 : decode cX1_back 25 = .ok (.checkcast 75, 3) := dk_192 0 75 (dk_at dksX1_back_1 5 rfl rfl)
theorem dX1_back_28 : decode cX1_back 28 = .ok (.astore_n 3, 1) := dk_78 (dk_at dksX1_back_1 8 rfl rfl)
theorem dX1_back_29 : decode cX1_back 29 = .ok (.iload_n 1, 1) := dk_27 (dk_at dksX1_back_1 9 rfl rfl)
theorem dX1_back_30 : decode cX1_back 30 = .ok (.aload_n 3, 1) := dk_45 (dk_at dksX1_back_1 10 rfl rfl)
theorem dX1_back_31 : decode cX1_back 31 = .ok (.getfield 248, 3) := dk_180 0 248 (dk_at dksX1_back_1 11 rfl rfl)
theorem dX1_back_34 : decode cX1_back 34 = .ok (.iadd, 1) := dk_96 (dk_at dksX1_back_1 14 rfl rfl)
theorem dX1_back_35 : decode cX1_back 35 = .ok (.istore_n 1, 1) := dk_60 (dk_at dksX1_back_1 15 rfl rfl)
theorem dX1_back_36 : decode cX1_back 36 = .ok (.goto (-26), 3) := dk_167 255 230 (dk_at dksX1_back_1 16 rfl rfl)
theorem dX1_back_39 : decode cX1_back 39 = .ok (.iload_n 1, 1) := dk_27 (dk_at dksX1_back_1 19 rfl rfl)
theorem dX1_back_40 : decode cX1_back 40 = .ok (.ireturn, 1) := dk_172 (dk_at dksX1_back_1 20 rfl rfl)
abbrev cX1_isBalanced : ByteArray := prog_2_method_30_code
def yX1_isBalanced : MethodName := ⟨RX1, "isBalanced", "()Z"⟩
def dkwX1_isBalanced_2 : List UInt8 := [180, 0, 106, 96, 42, 180, 0, 109, 100, 42, 180, 0, 112, 100, 160, 0, 7, 4, 167, 0, 4, 3, 172]
abbrev dktX1_isBalanced_2 : List UInt8 := dkwX1_isBalanced_2 ++ []
def dkwX1_isBalanced_1 : List UInt8 := [182, 1, 12, 100, 160, 0, 7, 4, 167, 0, 4, 3, 60, 27, 153, 0, 31, 42, 180, 0, 34, 16, 50, 42]
abbrev dktX1_isBalanced_1 : List UInt8 := dkwX1_isBalanced_1 ++ dktX1_isBalanced_2
def dkwX1_isBalanced_0 : List UInt8 := [42, 180, 0, 45, 42, 182, 1, 4, 42, 182, 1, 7, 96, 42, 180, 0, 115, 96, 42, 182, 1, 10, 96, 42]
abbrev dktX1_isBalanced_0 : List UInt8 := dkwX1_isBalanced_0 ++ dktX1_isBalanced_1
theorem dksX1_isBalanced_0 : cX1_isBalanced.data.toList.drop 0 = dktX1_isBalanced_0 := by decide +kernel
theorem dksX1_isBalanced_1 : cX1_isBalanced.data.toList.drop 24 = dktX1_isBalanced_1 := dk_seg dksX1_isBalanced_0 24 rfl rfl
theorem dksX1_isBalanced_2 : cX1_isBalanced.data.toList.drop 48 = dktX1_isBalanced_2 := dk_seg dksX1_isBalanced_1 24 rfl rfl
theorem dX1_isBalanced_0 : decode cX1_isBalanced 0 = .ok (.aload_n 0, 1) := dk_42 (dk_at dksX1_isBalanced_0 0 rfl rfl)
theorem dX1_isBalanced_1 : decode cX1_isBalanced 1 = .ok (.getfield 45, 3) := dk_180 0 45 (dk_at dksX1_isBalanced_0 1 rfl rfl)
theorem dX1_isBalanced_4 : decode cX1_isBalanced 4 = .ok (.aload_n 0, 1) := dk_42 (dk_at dksX1_isBalanced_0 4 rfl rfl)
theorem dX1_isBalanced_5 : decode cX1_isBalanced 5 = .ok (.invokevirtual 260, 3) := dk_182 1 4 (dk_at dksX1_isBalanced_0 5 rfl rfl)
theorem dX1_isBalanced_8 : decode cX1_isBalanced 8 = .ok (.aload_n 0, 1) := dk_42 (dk_at dksX1_isBalanced_0 8 rfl rfl)
theorem dX1_isBalanced_9 : decode cX1_isBalanced 9 = .ok (.invokevirtual 263, 3) := dk_182 1 7 (dk_at dksX1_isBalanced_0 9 rfl rfl)
theorem dX1_isBalanced_12 : decode cX1_isBalanced 12 = .ok (.iadd, 1) := dk_96 (dk_at dksX1_isBalanced_0 12 rfl rfl)
theorem dX1_isBalanced_13 : decode cX1_isBalanced 13 = .ok (.aload_n 0, 1) := dk_42 (dk_at dksX1_isBalanced_0 13 rfl rfl)
theorem dX1_isBalanced_14 : decode cX1_isBalanced 14 = .ok (.getfield 115, 3) := dk_180 0 115 (dk_at dksX1_isBalanced_0 14 rfl rfl)
theorem dX1_isBalanced_17 : decode cX1_isBalanced 17 = .ok (.iadd, 1) := dk_96 (dk_at dksX1_isBalanced_0 17 rfl rfl)
theorem dX1_isBalanced_18 : decode cX1_isBalanced 18 = .ok (.aload_n 0, 1) := dk_42 (dk_at dksX1_isBalanced_0 18 rfl rfl)
theorem dX1_isBalanced_19 : decode cX1_isBalanced 19 = .ok (.invokevirtual 266, 3) := dk_182 1 10 (dk_at dksX1_isBalanced_0 19 rfl rfl)
theorem dX1_isBalanced_22 : decode cX1_isBalanced 22 = .ok (.iadd, 1) := dk_96 (dk_at dksX1_isBalanced_0 22 rfl rfl)
theorem dX1_isBalanced_23 : decode cX1_isBalanced 23 = .ok (.aload_n 0, 1) := dk_42 (dk_at dksX1_isBalanced_0 23 rfl rfl)
theorem dX1_isBalanced_24 : decode cX1_isBalanced 24 = .ok (.invokevirtual 268, 3) := dk_182 1 12 (dk_at dksX1_isBalanced_1 0 rfl rfl)
theorem dX1_isBalanced_27 : decode cX1_isBalanced 27 = .ok (.isub, 1) := dk_100 (dk_at dksX1_isBalanced_1 3 rfl rfl)
theorem dX1_isBalanced_28 : decode cX1_isBalanced 28 = .ok (.if_icmp .ne 7, 3) := dk_160 0 7 (dk_at dksX1_isBalanced_1 4 rfl rfl)
theorem dX1_isBalanced_31 : decode cX1_isBalanced 31 = .ok (.iconst 1, 1) := dk_4 (dk_at dksX1_isBalanced_1 7 rfl rfl)
theorem dX1_isBalanced_32 : decode cX1_isBalanced 32 = .ok (.goto 4, 3) := dk_167 0 4 (dk_at dksX1_isBalanced_1 8 rfl rfl)
theorem dX1_isBalanced_35 : decode cX1_isBalanced 35 = .ok (.iconst 0, 1) := dk_3 (dk_at dksX1_isBalanced_1 11 rfl rfl)
theorem dX1_isBalanced_36 : decode cX1_isBalanced 36 = .ok (.istore_n 1, 1) := dk_60 (dk_at dksX1_isBalanced_1 12 rfl rfl)
theorem dX1_isBalanced_37 : decode cX1_isBalanced 37 = .ok (.iload_n 1, 1) := dk_27 (dk_at dksX1_isBalanced_1 13 rfl rfl)
theorem dX1_isBalanced_38 : decode cX1_isBalanced 38 = .ok (.ifCond .eq 31, 3) := dk_153 0 31 (dk_at dksX1_isBalanced_1 14 rfl rfl)
theorem dX1_isBalanced_41 : decode cX1_isBalanced 41 = .ok (.aload_n 0, 1) := dk_42 (dk_at dksX1_isBalanced_1 17 rfl rfl)
theorem dX1_isBalanced_42 : decode cX1_isBalanced 42 = .ok (.getfield 34, 3) := dk_180 0 34 (dk_at dksX1_isBalanced_1 18 rfl rfl)
theorem dX1_isBalanced_45 : decode cX1_isBalanced 45 = .ok (.bipush 50, 2) := dk_16 50 (dk_at dksX1_isBalanced_1 21 rfl rfl)
theorem dX1_isBalanced_47 : decode cX1_isBalanced 47 = .ok (.aload_n 0, 1) := dk_42 (dk_at dksX1_isBalanced_1 23 rfl rfl)
theorem dX1_isBalanced_48 : decode cX1_isBalanced 48 = .ok (.getfield 106, 3) := dk_180 0 106 (dk_at dksX1_isBalanced_2 0 rfl rfl)
theorem dX1_isBalanced_51 : decode cX1_isBalanced 51 = .ok (.iadd, 1) := dk_96 (dk_at dksX1_isBalanced_2 3 rfl rfl)
theorem dX1_isBalanced_52 : decode cX1_isBalanced 52 = .ok (.aload_n 0, 1) := dk_42 (dk_at dksX1_isBalanced_2 4 rfl rfl)
theorem dX1_isBalanced_53 : decode cX1_isBalanced 53 = .ok (.getfield 109, 3) := dk_180 0 109 (dk_at dksX1_isBalanced_2 5 rfl rfl)
theorem dX1_isBalanced_56 : decode cX1_isBalanced 56 = .ok (.isub, 1) := dk_100 (dk_at dksX1_isBalanced_2 8 rfl rfl)
theorem dX1_isBalanced_57 : decode cX1_isBalanced 57 = .ok (.aload_n 0, 1) := dk_42 (dk_at dksX1_isBalanced_2 9 rfl rfl)
theorem dX1_isBalanced_58 : decode cX1_isBalanced 58 = .ok (.getfield 112, 3) := dk_180 0 112 (dk_at dksX1_isBalanced_2 10 rfl rfl)
theorem dX1_isBalanced_61 : decode cX1_isBalanced 61 = .ok (.isub, 1) := dk_100 (dk_at dksX1_isBalanced_2 13 rfl rfl)
theorem dX1_isBalanced_62 : decode cX1_isBalanced 62 = .ok (.if_icmp .ne 7, 3) := dk_160 0 7 (dk_at dksX1_isBalanced_2 14 rfl rfl)
theorem dX1_isBalanced_65 : decode cX1_isBalanced 65 = .ok (.iconst 1, 1) := dk_4 (dk_at dksX1_isBalanced_2 17 rfl rfl)
theorem dX1_isBalanced_66 : decode cX1_isBalanced 66 = .ok (.goto 4, 3) := dk_167 0 4 (dk_at dksX1_isBalanced_2 18 rfl rfl)
theorem dX1_isBalanced_69 : decode cX1_isBalanced 69 = .ok (.iconst 0, 1) := dk_3 (dk_at dksX1_isBalanced_2 21 rfl rfl)
theorem dX1_isBalanced_70 : decode cX1_isBalanced 70 = .ok (.ireturn, 1) := dk_172 (dk_at dksX1_isBalanced_2 22 rfl rfl)
abbrev cX1_tempers : ByteArray := prog_2_method_29_code
def yX1_tempers : MethodName := ⟨RX1, "tempers", "()I"⟩
def dkwX1_tempers_1 : List UInt8 := [185, 0, 71, 1, 0, 192, 0, 38, 78, 27, 45, 180, 1, 1, 96, 60, 167, 255, 230, 27, 172]
abbrev dktX1_tempers_1 : List UInt8 := dkwX1_tempers_1 ++ []
def dkwX1_tempers_0 : List UInt8 := [3, 60, 42, 180, 0, 14, 182, 0, 61, 77, 44, 185, 0, 65, 1, 0, 153, 0, 23, 44]
abbrev dktX1_tempers_0 : List UInt8 := dkwX1_tempers_0 ++ dktX1_tempers_1
theorem dksX1_tempers_0 : cX1_tempers.data.toList.drop 0 = dktX1_tempers_0 := by decide +kernel
theorem dksX1_tempers_1 : cX1_tempers.data.toList.drop 20 = dktX1_tempers_1 := dk_seg dksX1_tempers_0 20 rfl rfl
theorem dX1_tempers_0 : decode cX1_tempers 0 = .ok (.iconst 0, 1) := dk_3 (dk_at dksX1_tempers_0 0 rfl rfl)
theorem dX1_tempers_1 : decode cX1_tempers 1 = .ok (.istore_n 1, 1) := dk_60 (dk_at dksX1_tempers_0 1 rfl rfl)
theorem dX1_tempers_2 : decode cX1_tempers 2 = .ok (.aload_n 0, 1) := dk_42 (dk_at dksX1_tempers_0 2 rfl rfl)
theorem dX1_tempers_3 : decode cX1_tempers 3 = .ok (.getfield 14, 3) := dk_180 0 14 (dk_at dksX1_tempers_0 3 rfl rfl)
theorem dX1_tempers_6 : decode cX1_tempers 6 = .ok (.invokevirtual 61, 3) := dk_182 0 61 (dk_at dksX1_tempers_0 6 rfl rfl)
theorem dX1_tempers_9 : decode cX1_tempers 9 = .ok (.astore_n 2, 1) := dk_77 (dk_at dksX1_tempers_0 9 rfl rfl)
theorem dX1_tempers_10 : decode cX1_tempers 10 = .ok (.aload_n 2, 1) := dk_44 (dk_at dksX1_tempers_0 10 rfl rfl)
theorem dX1_tempers_11 : decode cX1_tempers 11 = .ok (.invokeinterface 65 1, 5) := by decide +kernel
theorem dX1_tempers_16 : decode cX1_tempers 16 = .ok (.ifCond .eq 23, 3) := dk_153 0 23 (dk_at dksX1_tempers_0 16 rfl rfl)
theorem dX1_tempers_19 : decode cX1_tempers 19 = .ok (.aload_n 2, 1) := dk_44 (dk_at dksX1_tempers_0 19 rfl rfl)
theorem dX1_tempers_20 : decode cX1_tempers 20 = .ok (.invokeinterface 71 1, 5) := by decide +kernel
theorem dX1_tempers_25 : decode cX1_tempers 25 = .ok (.checkcast 38, 3) := dk_192 0 38 (dk_at dksX1_tempers_1 5 rfl rfl)
theorem dX1_tempers_28 : decode cX1_tempers 28 = .ok (.astore_n 3, 1) := dk_78 (dk_at dksX1_tempers_1 8 rfl rfl)
theorem dX1_tempers_29 : decode cX1_tempers 29 = .ok (.iload_n 1, 1) := dk_27 (dk_at dksX1_tempers_1 9 rfl rfl)
theorem dX1_tempers_30 : decode cX1_tempers 30 = .ok (.aload_n 3, 1) := dk_45 (dk_at dksX1_tempers_1 10 rfl rfl)
theorem dX1_tempers_31 : decode cX1_tempers 31 = .ok (.getfield 257, 3) := dk_180 1 1 (dk_at dksX1_tempers_1 11 rfl rfl)
theorem dX1_tempers_34 : decode cX1_tempers 34 = .ok (.iadd, 1) := dk_96 (dk_at dksX1_tempers_1 14 rfl rfl)
theorem dX1_tempers_35 : decode cX1_tempers 35 = .ok (.istore_n 1, 1) := dk_60 (dk_at dksX1_tempers_1 15 rfl rfl)
theorem dX1_tempers_36 : decode cX1_tempers 36 = .ok (.goto (-26), 3) := dk_167 255 230 (dk_at dksX1_tempers_1 16 rfl rfl)
theorem dX1_tempers_39 : decode cX1_tempers 39 = .ok (.iload_n 1, 1) := dk_27 (dk_at dksX1_tempers_1 19 rfl rfl)
theorem dX1_tempers_40 : decode cX1_tempers 40 = .ok (.ireturn, 1) := dk_172 (dk_at dksX1_tempers_1 20 rfl rfl)
theorem q65 : (Jvm.Cond.initialized "BrushSellers$Company") ∈ lw_all := lw_g (lw_at lw_m1 2 rfl) rfl
theorem q115 : (Jvm.Cond.instantiable "BrushSellers$Company" (14 : Nat)) ∈ lw_all := lw_g (lw_at lw_m1 52 rfl) rfl
theorem q117 : (Jvm.Cond.instanceMethod ({ cls := "BrushSellers$Company", name := "<init>", desc := "()V" } : Jvm.MethodName)) ∈ lw_all := lw_g (lw_at lw_m1 54 rfl) rfl
theorem q118 : (Jvm.Cond.code ({ cls := "BrushSellers$Company", name := "<init>", desc := "()V" } : Jvm.MethodName) prog_2_method_1_code (2 : Nat) (Option.none : Option Jvm.ClassFile.FieldType)) ∈ lw_all := lw_g (lw_at lw_m1 55 rfl) rfl
theorem q119 : (Jvm.Cond.methodLink "BrushSellers$Company" (3 : Nat) ({ cls := "java/lang/Object", name := "<init>", desc := "()V" } : Jvm.MethodName)) ∈ lw_all := lw_g (lw_at lw_m1 56 rfl) rfl
theorem q120 : (Jvm.Cond.classLink "BrushSellers$Company" (9 : Nat) "java/util/ArrayList") ∈ lw_all := lw_g (lw_at lw_m1 57 rfl) rfl
theorem q122 : (Jvm.Cond.methodLink "BrushSellers$Company" (11 : Nat) ({ cls := "java/util/ArrayList", name := "<init>", desc := "(I)V" } : Jvm.MethodName)) ∈ lw_all := lw_g (lw_at lw_m1 59 rfl) rfl
theorem q155 : (Jvm.Cond.classLink "BrushSellers$Company" (23 : Nat) "java/util/LinkedList") ∈ lw_all := lw_g (lw_at lw_m1 92 rfl) rfl
theorem q157 : (Jvm.Cond.methodLink "BrushSellers$Company" (25 : Nat) ({ cls := "java/util/LinkedList", name := "<init>", desc := "()V" } : Jvm.MethodName)) ∈ lw_all := lw_g (lw_at lw_m1 94 rfl) rfl
theorem q176 : (Jvm.Cond.classLink "BrushSellers$Company" (38 : Nat) "BrushSellers$House") ∈ lw_all := lw_g (lw_at lw_m1 113 rfl) rfl
theorem q178 : (Jvm.Cond.methodLink "BrushSellers$Company" (40 : Nat) ({ cls := "BrushSellers$House", name := "<init>", desc := "(I)V" } : Jvm.MethodName)) ∈ lw_all := lw_g (lw_at lw_m1 115 rfl) rfl
theorem q208 : (Jvm.Cond.fieldLinkNest "BrushSellers$Company" (186 : Nat) "BrushSellers$House" "number" "I" "BrushSellers") ∈ lw_tbl := lw_at lw_m1 145 rfl
theorem q210 : (Jvm.Cond.fieldLinkNest "BrushSellers$Company" (257 : Nat) "BrushSellers$House" "temper" "I" "BrushSellers") ∈ lw_tbl := lw_at lw_m1 147 rfl
theorem q212 : (Jvm.Cond.fieldLinkNest "BrushSellers$Company" (145 : Nat) "BrushSellers$House" "dog" "I" "BrushSellers") ∈ lw_tbl := lw_at lw_m1 149 rfl
theorem q226 : (Jvm.Cond.methodLink "BrushSellers$Company" (41 : Nat) ({ cls := "java/util/ArrayList", name := "add", desc := "(Ljava/lang/Object;)Z" } : Jvm.MethodName)) ∈ lw_all := lw_g (lw_at lw_m1 163 rfl) rfl
theorem q261 : (Jvm.Cond.selects "BrushSellers$Company" ({ cls := "java/lang/Object", name := "getClass", desc := "()Ljava/lang/Class;" } : Jvm.MethodName) ({ cls := "java/lang/Object", name := "getClass", desc := "()Ljava/lang/Class;" } : Jvm.MethodName)) ∈ lw_all := lw_g (lw_at lw_m1 198 rfl) rfl
theorem q296 : (Jvm.Cond.fieldLink "BrushSellers$Company" (14 : Nat) "BrushSellers$Company" "houses" "Ljava/util/ArrayList;") ∈ lw_all := lw_g (lw_at lw_m1 233 rfl) rfl
theorem q298 : (Jvm.Cond.fieldLink "BrushSellers$Company" (20 : Nat) "BrushSellers$Company" "sellers" "Ljava/util/ArrayList;") ∈ lw_all := lw_g (lw_at lw_m1 235 rfl) rfl
theorem q300 : (Jvm.Cond.fieldLink "BrushSellers$Company" (26 : Nat) "BrushSellers$Company" "sales" "Ljava/util/LinkedList;") ∈ lw_all := lw_g (lw_at lw_m1 237 rfl) rfl
theorem q302 : (Jvm.Cond.fieldLink "BrushSellers$Company" (30 : Nat) "BrushSellers$Company" "depot" "[I") ∈ lw_all := lw_g (lw_at lw_m1 239 rfl) rfl
theorem q304 : (Jvm.Cond.fieldLink "BrushSellers$Company" (100 : Nat) "BrushSellers$Company" "day" "I") ∈ lw_all := lw_g (lw_at lw_m2 1 rfl) rfl
theorem q306 : (Jvm.Cond.fieldLink "BrushSellers$Company" (103 : Nat) "BrushSellers$Company" "minutes" "I") ∈ lw_all := lw_g (lw_at lw_m2 3 rfl) rfl
theorem q308 : (Jvm.Cond.fieldLink "BrushSellers$Company" (34 : Nat) "BrushSellers$Company" "coins" "I") ∈ lw_all := lw_g (lw_at lw_m2 5 rfl) rfl
theorem q310 : (Jvm.Cond.fieldLink "BrushSellers$Company" (106 : Nat) "BrushSellers$Company" "got" "I") ∈ lw_all := lw_g (lw_at lw_m2 7 rfl) rfl
theorem q312 : (Jvm.Cond.fieldLink "BrushSellers$Company" (109 : Nat) "BrushSellers$Company" "paidBack" "I") ∈ lw_all := lw_g (lw_at lw_m2 9 rfl) rfl
theorem q314 : (Jvm.Cond.fieldLink "BrushSellers$Company" (112 : Nat) "BrushSellers$Company" "spent" "I") ∈ lw_all := lw_g (lw_at lw_m2 11 rfl) rfl
theorem q316 : (Jvm.Cond.fieldLink "BrushSellers$Company" (45 : Nat) "BrushSellers$Company" "made" "I") ∈ lw_all := lw_g (lw_at lw_m2 13 rfl) rfl
theorem q318 : (Jvm.Cond.fieldLink "BrushSellers$Company" (115 : Nat) "BrushSellers$Company" "thrown" "I") ∈ lw_all := lw_g (lw_at lw_m2 15 rfl) rfl
theorem q320 : (Jvm.Cond.fieldLink "BrushSellers$Company" (118 : Nat) "BrushSellers$Company" "rings" "I") ∈ lw_all := lw_g (lw_at lw_m2 17 rfl) rfl
theorem q322 : (Jvm.Cond.fieldLink "BrushSellers$Company" (121 : Nat) "BrushSellers$Company" "bites" "I") ∈ lw_all := lw_g (lw_at lw_m2 19 rfl) rfl
theorem q324 : (Jvm.Cond.laysFinal "BrushSellers$Company" "BrushSellers$Company" "houses" "Ljava/util/ArrayList;") ∈ lw_all := lw_g (lw_at lw_m2 21 rfl) rfl
theorem q325 : (Jvm.Cond.soleField "BrushSellers$Company" "houses") ∈ lw_all := lw_g (lw_at lw_m2 22 rfl) rfl
theorem q326 : (Jvm.Cond.laysFinal "BrushSellers$Company" "BrushSellers$Company" "sellers" "Ljava/util/ArrayList;") ∈ lw_all := lw_g (lw_at lw_m2 23 rfl) rfl
theorem q327 : (Jvm.Cond.soleField "BrushSellers$Company" "sellers") ∈ lw_all := lw_g (lw_at lw_m2 24 rfl) rfl
theorem q328 : (Jvm.Cond.laysFinal "BrushSellers$Company" "BrushSellers$Company" "sales" "Ljava/util/LinkedList;") ∈ lw_all := lw_g (lw_at lw_m2 25 rfl) rfl
theorem q329 : (Jvm.Cond.soleField "BrushSellers$Company" "sales") ∈ lw_all := lw_g (lw_at lw_m2 26 rfl) rfl
theorem q330 : (Jvm.Cond.laysFinal "BrushSellers$Company" "BrushSellers$Company" "depot" "[I") ∈ lw_all := lw_g (lw_at lw_m2 27 rfl) rfl
theorem q331 : (Jvm.Cond.soleField "BrushSellers$Company" "depot") ∈ lw_all := lw_g (lw_at lw_m2 28 rfl) rfl
theorem q332 : (Jvm.Cond.lays "BrushSellers$Company" "BrushSellers$Company" "day" "I") ∈ lw_all := lw_g (lw_at lw_m2 29 rfl) rfl
theorem q333 : (Jvm.Cond.soleField "BrushSellers$Company" "day") ∈ lw_all := lw_g (lw_at lw_m2 30 rfl) rfl
theorem q334 : (Jvm.Cond.lays "BrushSellers$Company" "BrushSellers$Company" "minutes" "I") ∈ lw_all := lw_g (lw_at lw_m2 31 rfl) rfl
theorem q335 : (Jvm.Cond.soleField "BrushSellers$Company" "minutes") ∈ lw_all := lw_g (lw_at lw_m2 32 rfl) rfl
theorem q336 : (Jvm.Cond.lays "BrushSellers$Company" "BrushSellers$Company" "coins" "I") ∈ lw_all := lw_g (lw_at lw_m2 33 rfl) rfl
theorem q337 : (Jvm.Cond.soleField "BrushSellers$Company" "coins") ∈ lw_all := lw_g (lw_at lw_m2 34 rfl) rfl
theorem q338 : (Jvm.Cond.lays "BrushSellers$Company" "BrushSellers$Company" "got" "I") ∈ lw_all := lw_g (lw_at lw_m2 35 rfl) rfl
theorem q339 : (Jvm.Cond.soleField "BrushSellers$Company" "got") ∈ lw_all := lw_g (lw_at lw_m2 36 rfl) rfl
theorem q340 : (Jvm.Cond.lays "BrushSellers$Company" "BrushSellers$Company" "paidBack" "I") ∈ lw_all := lw_g (lw_at lw_m2 37 rfl) rfl
theorem q341 : (Jvm.Cond.soleField "BrushSellers$Company" "paidBack") ∈ lw_all := lw_g (lw_at lw_m2 38 rfl) rfl
theorem q342 : (Jvm.Cond.lays "BrushSellers$Company" "BrushSellers$Company" "spent" "I") ∈ lw_all := lw_g (lw_at lw_m2 39 rfl) rfl
theorem q343 : (Jvm.Cond.soleField "BrushSellers$Company" "spent") ∈ lw_all := lw_g (lw_at lw_m2 40 rfl) rfl
theorem q344 : (Jvm.Cond.lays "BrushSellers$Company" "BrushSellers$Company" "made" "I") ∈ lw_all := lw_g (lw_at lw_m2 41 rfl) rfl
theorem q345 : (Jvm.Cond.soleField "BrushSellers$Company" "made") ∈ lw_all := lw_g (lw_at lw_m2 42 rfl) rfl
theorem q346 : (Jvm.Cond.lays "BrushSellers$Company" "BrushSellers$Company" "thrown" "I") ∈ lw_all := lw_g (lw_at lw_m2 43 rfl) rfl
theorem q347 : (Jvm.Cond.soleField "BrushSellers$Company" "thrown") ∈ lw_all := lw_g (lw_at lw_m2 44 rfl) rfl
theorem q348 : (Jvm.Cond.lays "BrushSellers$Company" "BrushSellers$Company" "rings" "I") ∈ lw_all := lw_g (lw_at lw_m2 45 rfl) rfl
theorem q349 : (Jvm.Cond.soleField "BrushSellers$Company" "rings") ∈ lw_all := lw_g (lw_at lw_m2 46 rfl) rfl
theorem q350 : (Jvm.Cond.lays "BrushSellers$Company" "BrushSellers$Company" "bites" "I") ∈ lw_all := lw_g (lw_at lw_m2 47 rfl) rfl
theorem q351 : (Jvm.Cond.soleField "BrushSellers$Company" "bites") ∈ lw_all := lw_g (lw_at lw_m2 48 rfl) rfl
theorem q352 : (Jvm.Cond.superclass "BrushSellers$Company" "java/lang/Object") ∈ lw_all := lw_g (lw_at lw_m2 49 rfl) rfl
theorem q435 : (Jvm.Cond.instanceMethod ({ cls := "BrushSellers$Company", name := "copy", desc := "()LBrushSellers$Company;" } : Jvm.MethodName)) ∈ lw_all := lw_g (lw_at lw_m2 132 rfl) rfl
theorem q436 : (Jvm.Cond.selects "BrushSellers$Company" ({ cls := "BrushSellers$Company", name := "copy", desc := "()LBrushSellers$Company;" } : Jvm.MethodName) ({ cls := "BrushSellers$Company", name := "copy", desc := "()LBrushSellers$Company;" } : Jvm.MethodName)) ∈ lw_all := lw_g (lw_at lw_m2 133 rfl) rfl
theorem q437 : (Jvm.Cond.code ({ cls := "BrushSellers$Company", name := "copy", desc := "()LBrushSellers$Company;" } : Jvm.MethodName) prog_2_method_2_code (4 : Nat) (Option.some (Jvm.ClassFile.FieldType.object "BrushSellers$Company"))) ∈ lw_all := lw_g (lw_at lw_m2 134 rfl) rfl
theorem q438 : (Jvm.Cond.classLink "BrushSellers$Company" (15 : Nat) "BrushSellers$Company") ∈ lw_all := lw_g (lw_at lw_m2 135 rfl) rfl
theorem q439 : (Jvm.Cond.methodLink "BrushSellers$Company" (48 : Nat) ({ cls := "BrushSellers$Company", name := "<init>", desc := "()V" } : Jvm.MethodName)) ∈ lw_all := lw_g (lw_at lw_m2 136 rfl) rfl
theorem q440 : (Jvm.Cond.methodLink "BrushSellers$Company" (49 : Nat) ({ cls := "java/util/ArrayList", name := "get", desc := "(I)Ljava/lang/Object;" } : Jvm.MethodName)) ∈ lw_all := lw_g (lw_at lw_m2 137 rfl) rfl
theorem q454 : (Jvm.Cond.methodLink "BrushSellers$Company" (53 : Nat) ({ cls := "BrushSellers$House", name := "copy", desc := "()LBrushSellers$House;" } : Jvm.MethodName)) ∈ lw_all := lw_g (lw_at lw_m2 151 rfl) rfl
theorem q487 : (Jvm.Cond.methodLink "BrushSellers$Company" (57 : Nat) ({ cls := "java/util/ArrayList", name := "set", desc := "(ILjava/lang/Object;)Ljava/lang/Object;" } : Jvm.MethodName)) ∈ lw_all := lw_g (lw_at lw_m2 184 rfl) rfl
theorem q491 : (Jvm.Cond.methodLink "BrushSellers$Company" (61 : Nat) ({ cls := "java/util/ArrayList", name := "iterator", desc := "()Ljava/util/Iterator;" } : Jvm.MethodName)) ∈ lw_all := lw_g (lw_at lw_m2 188 rfl) rfl
theorem q516 : (Jvm.Cond.interfaceEntry "BrushSellers$Company" (65 : Nat)) ∈ lw_tbl := lw_at lw_m2 213 rfl
theorem q517 : (Jvm.Cond.methodLink "BrushSellers$Company" (65 : Nat) ({ cls := "java/util/Iterator", name := "hasNext", desc := "()Z" } : Jvm.MethodName)) ∈ lw_all := lw_g (lw_at lw_m2 214 rfl) rfl
theorem q550 : (Jvm.Cond.interfaceEntry "BrushSellers$Company" (71 : Nat)) ∈ lw_tbl := lw_at lw_m3 7 rfl
theorem q551 : (Jvm.Cond.methodLink "BrushSellers$Company" (71 : Nat) ({ cls := "java/util/Iterator", name := "next", desc := "()Ljava/lang/Object;" } : Jvm.MethodName)) ∈ lw_all := lw_g (lw_at lw_m3 8 rfl) rfl
theorem q862 : (Jvm.Cond.classLink "BrushSellers$Company" (75 : Nat) "BrushSellers$Seller") ∈ lw_all := lw_g (lw_at lw_m4 79 rfl) rfl
theorem q863 : (Jvm.Cond.methodLink "BrushSellers$Company" (77 : Nat) ({ cls := "BrushSellers$Seller", name := "copy", desc := "()LBrushSellers$Seller;" } : Jvm.MethodName)) ∈ lw_all := lw_g (lw_at lw_m4 80 rfl) rfl
theorem q874 : (Jvm.Cond.fieldLinkNest "BrushSellers$Company" (198 : Nat) "BrushSellers$Seller" "charm" "I" "BrushSellers") ∈ lw_tbl := lw_at lw_m4 91 rfl
theorem q876 : (Jvm.Cond.fieldLinkNest "BrushSellers$Company" (141 : Nat) "BrushSellers$Seller" "house" "I" "BrushSellers") ∈ lw_tbl := lw_at lw_m4 93 rfl
theorem q878 : (Jvm.Cond.fieldLinkNest "BrushSellers$Company" (183 : Nat) "BrushSellers$Seller" "worn" "I" "BrushSellers") ∈ lw_tbl := lw_at lw_m4 95 rfl
theorem q880 : (Jvm.Cond.fieldLinkNest "BrushSellers$Company" (158 : Nat) "BrushSellers$Seller" "brushes" "[I" "BrushSellers") ∈ lw_tbl := lw_at lw_m4 97 rfl
theorem q882 : (Jvm.Cond.fieldLinkNest "BrushSellers$Company" (233 : Nat) "BrushSellers$Seller" "sold" "I" "BrushSellers") ∈ lw_tbl := lw_at lw_m4 99 rfl
theorem q884 : (Jvm.Cond.fieldLinkNest "BrushSellers$Company" (248 : Nat) "BrushSellers$Seller" "back" "I" "BrushSellers") ∈ lw_tbl := lw_at lw_m4 101 rfl
theorem q902 : (Jvm.Cond.methodLink "BrushSellers$Company" (80 : Nat) ({ cls := "java/util/LinkedList", name := "iterator", desc := "()Ljava/util/Iterator;" } : Jvm.MethodName)) ∈ lw_all := lw_g (lw_at lw_m4 119 rfl) rfl
theorem q973 : (Jvm.Cond.classLink "BrushSellers$Company" (81 : Nat) "BrushSellers$Sale") ∈ lw_all := lw_g (lw_at lw_m4 190 rfl) rfl
theorem q974 : (Jvm.Cond.methodLink "BrushSellers$Company" (83 : Nat) ({ cls := "BrushSellers$Sale", name := "copy", desc := "()LBrushSellers$Sale;" } : Jvm.MethodName)) ∈ lw_all := lw_g (lw_at lw_m4 191 rfl) rfl
theorem q985 : (Jvm.Cond.fieldLinkNest "BrushSellers$Company" (239 : Nat) "BrushSellers$Sale" "seller" "I" "BrushSellers") ∈ lw_tbl := lw_at lw_m4 202 rfl
theorem q987 : (Jvm.Cond.fieldLinkNest "BrushSellers$Company" (246 : Nat) "BrushSellers$Sale" "house" "I" "BrushSellers") ∈ lw_tbl := lw_at lw_m4 204 rfl
theorem q989 : (Jvm.Cond.fieldLinkNest "BrushSellers$Company" (228 : Nat) "BrushSellers$Sale" "bristle" "I" "BrushSellers") ∈ lw_tbl := lw_at lw_m4 206 rfl
theorem q991 : (Jvm.Cond.fieldLinkNest "BrushSellers$Company" (231 : Nat) "BrushSellers$Sale" "brushes" "I" "BrushSellers") ∈ lw_tbl := lw_at lw_m4 208 rfl
theorem q994 : (Jvm.Cond.fieldLinkNest "BrushSellers$Company" (247 : Nat) "BrushSellers$Sale" "day" "I" "BrushSellers") ∈ lw_tbl := lw_at lw_m4 211 rfl
theorem q996 : (Jvm.Cond.fieldLinkNest "BrushSellers$Company" (242 : Nat) "BrushSellers$Sale" "isBack" "Z" "BrushSellers") ∈ lw_tbl := lw_at lw_m4 213 rfl
theorem q1012 : (Jvm.Cond.methodLink "BrushSellers$Company" (86 : Nat) ({ cls := "java/util/LinkedList", name := "addLast", desc := "(Ljava/lang/Object;)V" } : Jvm.MethodName)) ∈ lw_all := lw_g (lw_at lw_m4 229 rfl) rfl
theorem q1041 : (Jvm.Cond.methodLink "BrushSellers$Company" (90 : Nat) ({ cls := "java/lang/System", name := "arraycopy", desc := "(Ljava/lang/Object;ILjava/lang/Object;II)V" } : Jvm.MethodName)) ∈ lw_all := lw_g (lw_at lw_m5 18 rfl) rfl
theorem q1042 : (Jvm.Cond.methodLink "BrushSellers$Company" (96 : Nat) ({ cls := "BrushSellers$Company", name := "takesNumbers", desc := "(LBrushSellers$Company;)V" } : Jvm.MethodName)) ∈ lw_all := lw_g (lw_at lw_m5 19 rfl) rfl
theorem q1043 : (Jvm.Cond.privateMethod ({ cls := "BrushSellers$Company", name := "takesNumbers", desc := "(LBrushSellers$Company;)V" } : Jvm.MethodName)) ∈ lw_tbl := lw_at lw_m5 20 rfl
theorem q1044 : (Jvm.Cond.instanceMethod ({ cls := "BrushSellers$Company", name := "takesNumbers", desc := "(LBrushSellers$Company;)V" } : Jvm.MethodName)) ∈ lw_all := lw_g (lw_at lw_m5 21 rfl) rfl
theorem q1045 : (Jvm.Cond.code ({ cls := "BrushSellers$Company", name := "takesNumbers", desc := "(LBrushSellers$Company;)V" } : Jvm.MethodName) prog_2_method_3_code (2 : Nat) (Option.none : Option Jvm.ClassFile.FieldType)) ∈ lw_all := lw_g (lw_at lw_m5 22 rfl) rfl
theorem q1047 : (Jvm.Cond.instanceMethod ({ cls := "BrushSellers$Company", name := "comes", desc := "(I)I" } : Jvm.MethodName)) ∈ lw_all := lw_g (lw_at lw_m5 24 rfl) rfl
theorem q1048 : (Jvm.Cond.selects "BrushSellers$Company" ({ cls := "BrushSellers$Company", name := "comes", desc := "(I)I" } : Jvm.MethodName) ({ cls := "BrushSellers$Company", name := "comes", desc := "(I)I" } : Jvm.MethodName)) ∈ lw_all := lw_g (lw_at lw_m5 25 rfl) rfl
theorem q1049 : (Jvm.Cond.code ({ cls := "BrushSellers$Company", name := "comes", desc := "(I)I" } : Jvm.MethodName) prog_2_method_9_code (2 : Nat) (Option.some Jvm.ClassFile.FieldType.int)) ∈ lw_all := lw_g (lw_at lw_m5 26 rfl) rfl
theorem q1050 : (Jvm.Cond.methodLink "BrushSellers$Company" (124 : Nat) ({ cls := "java/util/ArrayList", name := "size", desc := "()I" } : Jvm.MethodName)) ∈ lw_all := lw_g (lw_at lw_m5 27 rfl) rfl
theorem q1051 : (Jvm.Cond.methodLinkNest "BrushSellers$Company" (133 : Nat) ({ cls := "BrushSellers", name := "refuse", desc := "(ZII)V" } : Jvm.MethodName) "BrushSellers") ∈ lw_tbl := lw_at lw_m5 28 rfl
theorem q1081 : (Jvm.Cond.methodLink "BrushSellers$Company" (144 : Nat) ({ cls := "BrushSellers$Seller", name := "<init>", desc := "(I)V" } : Jvm.MethodName)) ∈ lw_all := lw_g (lw_at lw_m5 58 rfl) rfl
theorem q1135 : (Jvm.Cond.instanceMethod ({ cls := "BrushSellers$Company", name := "bringsDog", desc := "(II)I" } : Jvm.MethodName)) ∈ lw_all := lw_g (lw_at lw_m5 112 rfl) rfl
theorem q1136 : (Jvm.Cond.selects "BrushSellers$Company" ({ cls := "BrushSellers$Company", name := "bringsDog", desc := "(II)I" } : Jvm.MethodName) ({ cls := "BrushSellers$Company", name := "bringsDog", desc := "(II)I" } : Jvm.MethodName)) ∈ lw_all := lw_g (lw_at lw_m5 113 rfl) rfl
theorem q1137 : (Jvm.Cond.code ({ cls := "BrushSellers$Company", name := "bringsDog", desc := "(II)I" } : Jvm.MethodName) prog_2_method_11_code (4 : Nat) (Option.some Jvm.ClassFile.FieldType.int)) ∈ lw_all := lw_g (lw_at lw_m5 114 rfl) rfl
theorem q1138 : (Jvm.Cond.methodLink "BrushSellers$Company" (148 : Nat) ({ cls := "BrushSellers$Company", name := "dogs", desc := "()I" } : Jvm.MethodName)) ∈ lw_all := lw_g (lw_at lw_m5 115 rfl) rfl
theorem q1139 : (Jvm.Cond.instanceMethod ({ cls := "BrushSellers$Company", name := "dogs", desc := "()I" } : Jvm.MethodName)) ∈ lw_all := lw_g (lw_at lw_m5 116 rfl) rfl
theorem q1140 : (Jvm.Cond.selects "BrushSellers$Company" ({ cls := "BrushSellers$Company", name := "dogs", desc := "()I" } : Jvm.MethodName) ({ cls := "BrushSellers$Company", name := "dogs", desc := "()I" } : Jvm.MethodName)) ∈ lw_all := lw_g (lw_at lw_m5 117 rfl) rfl
theorem q1141 : (Jvm.Cond.code ({ cls := "BrushSellers$Company", name := "dogs", desc := "()I" } : Jvm.MethodName) prog_2_method_10_code (4 : Nat) (Option.some Jvm.ClassFile.FieldType.int)) ∈ lw_all := lw_g (lw_at lw_m5 118 rfl) rfl
theorem q1150 : (Jvm.Cond.instanceMethod ({ cls := "BrushSellers$Company", name := "makes", desc := "(II)I" } : Jvm.MethodName)) ∈ lw_all := lw_g (lw_at lw_m5 127 rfl) rfl
theorem q1151 : (Jvm.Cond.selects "BrushSellers$Company" ({ cls := "BrushSellers$Company", name := "makes", desc := "(II)I" } : Jvm.MethodName) ({ cls := "BrushSellers$Company", name := "makes", desc := "(II)I" } : Jvm.MethodName)) ∈ lw_all := lw_g (lw_at lw_m5 128 rfl) rfl
theorem q1152 : (Jvm.Cond.code ({ cls := "BrushSellers$Company", name := "makes", desc := "(II)I" } : Jvm.MethodName) prog_2_method_12_code (4 : Nat) (Option.some Jvm.ClassFile.FieldType.int)) ∈ lw_all := lw_g (lw_at lw_m5 129 rfl) rfl
theorem q1153 : (Jvm.Cond.methodLink "BrushSellers$Company" (151 : Nat) ({ cls := "BrushSellers$Company", name := "pays", desc := "(I)V" } : Jvm.MethodName)) ∈ lw_all := lw_g (lw_at lw_m5 130 rfl) rfl
theorem q1154 : (Jvm.Cond.privateMethod ({ cls := "BrushSellers$Company", name := "pays", desc := "(I)V" } : Jvm.MethodName)) ∈ lw_tbl := lw_at lw_m5 131 rfl
theorem q1155 : (Jvm.Cond.instanceMethod ({ cls := "BrushSellers$Company", name := "pays", desc := "(I)V" } : Jvm.MethodName)) ∈ lw_all := lw_g (lw_at lw_m5 132 rfl) rfl
theorem q1156 : (Jvm.Cond.code ({ cls := "BrushSellers$Company", name := "pays", desc := "(I)V" } : Jvm.MethodName) prog_2_method_6_code (2 : Nat) (Option.none : Option Jvm.ClassFile.FieldType)) ∈ lw_all := lw_g (lw_at lw_m5 133 rfl) rfl
theorem q1162 : (Jvm.Cond.instanceMethod ({ cls := "BrushSellers$Company", name := "isSeller", desc := "(I)Z" } : Jvm.MethodName)) ∈ lw_all := lw_g (lw_at lw_m5 139 rfl) rfl
theorem q1163 : (Jvm.Cond.selects "BrushSellers$Company" ({ cls := "BrushSellers$Company", name := "isSeller", desc := "(I)Z" } : Jvm.MethodName) ({ cls := "BrushSellers$Company", name := "isSeller", desc := "(I)Z" } : Jvm.MethodName)) ∈ lw_all := lw_g (lw_at lw_m5 140 rfl) rfl
theorem q1164 : (Jvm.Cond.code ({ cls := "BrushSellers$Company", name := "isSeller", desc := "(I)Z" } : Jvm.MethodName) prog_2_method_4_code (2 : Nat) (Option.some Jvm.ClassFile.FieldType.boolean)) ∈ lw_all := lw_g (lw_at lw_m5 141 rfl) rfl
theorem q1165 : (Jvm.Cond.methodLinkNest "BrushSellers$Company" (128 : Nat) ({ cls := "BrushSellers", name := "isIn", desc := "(III)Z" } : Jvm.MethodName) "BrushSellers") ∈ lw_tbl := lw_at lw_m5 142 rfl
theorem q1170 : (Jvm.Cond.instanceMethod ({ cls := "BrushSellers$Company", name := "takes", desc := "(III)I" } : Jvm.MethodName)) ∈ lw_all := lw_g (lw_at lw_m5 147 rfl) rfl
theorem q1171 : (Jvm.Cond.selects "BrushSellers$Company" ({ cls := "BrushSellers$Company", name := "takes", desc := "(III)I" } : Jvm.MethodName) ({ cls := "BrushSellers$Company", name := "takes", desc := "(III)I" } : Jvm.MethodName)) ∈ lw_all := lw_g (lw_at lw_m5 148 rfl) rfl
theorem q1172 : (Jvm.Cond.code ({ cls := "BrushSellers$Company", name := "takes", desc := "(III)I" } : Jvm.MethodName) prog_2_method_15_code (5 : Nat) (Option.some Jvm.ClassFile.FieldType.int)) ∈ lw_all := lw_g (lw_at lw_m5 149 rfl) rfl
theorem q1173 : (Jvm.Cond.methodLink "BrushSellers$Company" (161 : Nat) ({ cls := "BrushSellers$Company", name := "checkAtDepot", desc := "(LBrushSellers$Seller;)V" } : Jvm.MethodName)) ∈ lw_all := lw_g (lw_at lw_m5 150 rfl) rfl
theorem q1174 : (Jvm.Cond.static ({ cls := "BrushSellers$Company", name := "checkAtDepot", desc := "(LBrushSellers$Seller;)V" } : Jvm.MethodName)) ∈ lw_all := lw_g (lw_at lw_m5 151 rfl) rfl
theorem q1175 : (Jvm.Cond.code ({ cls := "BrushSellers$Company", name := "checkAtDepot", desc := "(LBrushSellers$Seller;)V" } : Jvm.MethodName) prog_2_method_8_code (1 : Nat) (Option.none : Option Jvm.ClassFile.FieldType)) ∈ lw_all := lw_g (lw_at lw_m5 152 rfl) rfl
theorem q1197 : (Jvm.Cond.methodLink "BrushSellers$Company" (165 : Nat) ({ cls := "BrushSellers$Company", name := "checkFilling", desc := "(LBrushSellers$Seller;III)V" } : Jvm.MethodName)) ∈ lw_all := lw_g (lw_at lw_m5 174 rfl) rfl
theorem q1198 : (Jvm.Cond.static ({ cls := "BrushSellers$Company", name := "checkFilling", desc := "(LBrushSellers$Seller;III)V" } : Jvm.MethodName)) ∈ lw_all := lw_g (lw_at lw_m5 175 rfl) rfl
theorem q1199 : (Jvm.Cond.code ({ cls := "BrushSellers$Company", name := "checkFilling", desc := "(LBrushSellers$Seller;III)V" } : Jvm.MethodName) prog_2_method_13_code (4 : Nat) (Option.none : Option Jvm.ClassFile.FieldType)) ∈ lw_all := lw_g (lw_at lw_m5 176 rfl) rfl
theorem q1200 : (Jvm.Cond.methodLink "BrushSellers$Company" (154 : Nat) ({ cls := "BrushSellers$Seller", name := "room", desc := "(I)I" } : Jvm.MethodName)) ∈ lw_all := lw_g (lw_at lw_m5 177 rfl) rfl
theorem q1204 : (Jvm.Cond.methodLink "BrushSellers$Company" (169 : Nat) ({ cls := "BrushSellers$Company", name := "checkEmptying", desc := "(LBrushSellers$Seller;III)V" } : Jvm.MethodName)) ∈ lw_all := lw_g (lw_at lw_m5 181 rfl) rfl
theorem q1205 : (Jvm.Cond.static ({ cls := "BrushSellers$Company", name := "checkEmptying", desc := "(LBrushSellers$Seller;III)V" } : Jvm.MethodName)) ∈ lw_all := lw_g (lw_at lw_m5 182 rfl) rfl
theorem q1206 : (Jvm.Cond.code ({ cls := "BrushSellers$Company", name := "checkEmptying", desc := "(LBrushSellers$Seller;III)V" } : Jvm.MethodName) prog_2_method_14_code (4 : Nat) (Option.none : Option Jvm.ClassFile.FieldType)) ∈ lw_all := lw_g (lw_at lw_m5 183 rfl) rfl
theorem q1255 : (Jvm.Cond.instanceMethod ({ cls := "BrushSellers$Company", name := "goes", desc := "(II)I" } : Jvm.MethodName)) ∈ lw_all := lw_g (lw_at lw_m5 232 rfl) rfl
theorem q1256 : (Jvm.Cond.selects "BrushSellers$Company" ({ cls := "BrushSellers$Company", name := "goes", desc := "(II)I" } : Jvm.MethodName) ({ cls := "BrushSellers$Company", name := "goes", desc := "(II)I" } : Jvm.MethodName)) ∈ lw_all := lw_g (lw_at lw_m5 233 rfl) rfl
theorem q1257 : (Jvm.Cond.code ({ cls := "BrushSellers$Company", name := "goes", desc := "(II)I" } : Jvm.MethodName) prog_2_method_16_code (5 : Nat) (Option.some Jvm.ClassFile.FieldType.int)) ∈ lw_all := lw_g (lw_at lw_m5 234 rfl) rfl
theorem q1269 : (Jvm.Cond.methodLink "BrushSellers$Company" (174 : Nat) ({ cls := "BrushSellers$Seller", name := "checkSoles", desc := "(I)V" } : Jvm.MethodName)) ∈ lw_all := lw_g (lw_at lw_m6 6 rfl) rfl
theorem q1274 : (Jvm.Cond.methodLink "BrushSellers$Company" (177 : Nat) ({ cls := "BrushSellers$Company", name := "checkMinutes", desc := "(I)V" } : Jvm.MethodName)) ∈ lw_all := lw_g (lw_at lw_m6 11 rfl) rfl
theorem q1275 : (Jvm.Cond.privateMethod ({ cls := "BrushSellers$Company", name := "checkMinutes", desc := "(I)V" } : Jvm.MethodName)) ∈ lw_tbl := lw_at lw_m6 12 rfl
theorem q1276 : (Jvm.Cond.instanceMethod ({ cls := "BrushSellers$Company", name := "checkMinutes", desc := "(I)V" } : Jvm.MethodName)) ∈ lw_all := lw_g (lw_at lw_m6 13 rfl) rfl
theorem q1277 : (Jvm.Cond.code ({ cls := "BrushSellers$Company", name := "checkMinutes", desc := "(I)V" } : Jvm.MethodName) prog_2_method_7_code (2 : Nat) (Option.none : Option Jvm.ClassFile.FieldType)) ∈ lw_all := lw_g (lw_at lw_m6 14 rfl) rfl
theorem q1278 : (Jvm.Cond.methodLink "BrushSellers$Company" (180 : Nat) ({ cls := "BrushSellers$Seller", name := "goesTo", desc := "(I)V" } : Jvm.MethodName)) ∈ lw_all := lw_g (lw_at lw_m6 15 rfl) rfl
theorem q1287 : (Jvm.Cond.instanceMethod ({ cls := "BrushSellers$Company", name := "soles", desc := "(I)I" } : Jvm.MethodName)) ∈ lw_all := lw_g (lw_at lw_m6 24 rfl) rfl
theorem q1288 : (Jvm.Cond.selects "BrushSellers$Company" ({ cls := "BrushSellers$Company", name := "soles", desc := "(I)I" } : Jvm.MethodName) ({ cls := "BrushSellers$Company", name := "soles", desc := "(I)I" } : Jvm.MethodName)) ∈ lw_all := lw_g (lw_at lw_m6 25 rfl) rfl
theorem q1289 : (Jvm.Cond.code ({ cls := "BrushSellers$Company", name := "soles", desc := "(I)I" } : Jvm.MethodName) prog_2_method_17_code (4 : Nat) (Option.some Jvm.ClassFile.FieldType.int)) ∈ lw_all := lw_g (lw_at lw_m6 26 rfl) rfl
theorem q1295 : (Jvm.Cond.instanceMethod ({ cls := "BrushSellers$Company", name := "pets", desc := "(I)I" } : Jvm.MethodName)) ∈ lw_all := lw_g (lw_at lw_m6 32 rfl) rfl
theorem q1296 : (Jvm.Cond.selects "BrushSellers$Company" ({ cls := "BrushSellers$Company", name := "pets", desc := "(I)I" } : Jvm.MethodName) ({ cls := "BrushSellers$Company", name := "pets", desc := "(I)I" } : Jvm.MethodName)) ∈ lw_all := lw_g (lw_at lw_m6 33 rfl) rfl
theorem q1297 : (Jvm.Cond.code ({ cls := "BrushSellers$Company", name := "pets", desc := "(I)I" } : Jvm.MethodName) prog_2_method_18_code (4 : Nat) (Option.some Jvm.ClassFile.FieldType.int)) ∈ lw_all := lw_g (lw_at lw_m6 34 rfl) rfl
theorem q1298 : (Jvm.Cond.methodLink "BrushSellers$Company" (189 : Nat) ({ cls := "BrushSellers$House", name := "isGuarded", desc := "()Z" } : Jvm.MethodName)) ∈ lw_all := lw_g (lw_at lw_m6 35 rfl) rfl
theorem q1302 : (Jvm.Cond.methodLink "BrushSellers$Company" (192 : Nat) ({ cls := "java/lang/Math", name := "max", desc := "(II)I" } : Jvm.MethodName)) ∈ lw_all := lw_g (lw_at lw_m6 39 rfl) rfl
theorem q1327 : (Jvm.Cond.instanceMethod ({ cls := "BrushSellers$Company", name := "would", desc := "(LBrushSellers$Seller;LBrushSellers$House;II)I" } : Jvm.MethodName)) ∈ lw_all := lw_g (lw_at lw_m6 64 rfl) rfl
theorem q1328 : (Jvm.Cond.selects "BrushSellers$Company" ({ cls := "BrushSellers$Company", name := "would", desc := "(LBrushSellers$Seller;LBrushSellers$House;II)I" } : Jvm.MethodName) ({ cls := "BrushSellers$Company", name := "would", desc := "(LBrushSellers$Seller;LBrushSellers$House;II)I" } : Jvm.MethodName)) ∈ lw_all := lw_g (lw_at lw_m6 65 rfl) rfl
theorem q1329 : (Jvm.Cond.code ({ cls := "BrushSellers$Company", name := "would", desc := "(LBrushSellers$Seller;LBrushSellers$House;II)I" } : Jvm.MethodName) prog_2_method_19_code (5 : Nat) (Option.some Jvm.ClassFile.FieldType.int)) ∈ lw_all := lw_g (lw_at lw_m6 66 rfl) rfl
theorem q1330 : (Jvm.Cond.methodLink "BrushSellers$Company" (201 : Nat) ({ cls := "BrushSellers$House", name := "listensTo", desc := "(I)Z" } : Jvm.MethodName)) ∈ lw_all := lw_g (lw_at lw_m6 67 rfl) rfl
theorem q1335 : (Jvm.Cond.methodLink "BrushSellers$Company" (204 : Nat) ({ cls := "BrushSellers$House", name := "wants", desc := "(II)I" } : Jvm.MethodName)) ∈ lw_all := lw_g (lw_at lw_m6 72 rfl) rfl
theorem q1344 : (Jvm.Cond.methodLink "BrushSellers$Company" (207 : Nat) ({ cls := "java/lang/Math", name := "min", desc := "(II)I" } : Jvm.MethodName)) ∈ lw_all := lw_g (lw_at lw_m6 81 rfl) rfl
theorem q1350 : (Jvm.Cond.instanceMethod ({ cls := "BrushSellers$Company", name := "bestHouse", desc := "(LBrushSellers$Seller;II)I" } : Jvm.MethodName)) ∈ lw_all := lw_g (lw_at lw_m6 87 rfl) rfl
theorem q1351 : (Jvm.Cond.selects "BrushSellers$Company" ({ cls := "BrushSellers$Company", name := "bestHouse", desc := "(LBrushSellers$Seller;II)I" } : Jvm.MethodName) ({ cls := "BrushSellers$Company", name := "bestHouse", desc := "(LBrushSellers$Seller;II)I" } : Jvm.MethodName)) ∈ lw_all := lw_g (lw_at lw_m6 88 rfl) rfl
theorem q1352 : (Jvm.Cond.code ({ cls := "BrushSellers$Company", name := "bestHouse", desc := "(LBrushSellers$Seller;II)I" } : Jvm.MethodName) prog_2_method_20_code (10 : Nat) (Option.some Jvm.ClassFile.FieldType.int)) ∈ lw_all := lw_g (lw_at lw_m6 89 rfl) rfl
theorem q1353 : (Jvm.Cond.methodLink "BrushSellers$Company" (210 : Nat) ({ cls := "BrushSellers$Company", name := "would", desc := "(LBrushSellers$Seller;LBrushSellers$House;II)I" } : Jvm.MethodName)) ∈ lw_all := lw_g (lw_at lw_m6 90 rfl) rfl
theorem q1359 : (Jvm.Cond.instanceMethod ({ cls := "BrushSellers$Company", name := "rings", desc := "(III)I" } : Jvm.MethodName)) ∈ lw_all := lw_g (lw_at lw_m6 96 rfl) rfl
theorem q1360 : (Jvm.Cond.selects "BrushSellers$Company" ({ cls := "BrushSellers$Company", name := "rings", desc := "(III)I" } : Jvm.MethodName) ({ cls := "BrushSellers$Company", name := "rings", desc := "(III)I" } : Jvm.MethodName)) ∈ lw_all := lw_g (lw_at lw_m6 97 rfl) rfl
theorem q1361 : (Jvm.Cond.code ({ cls := "BrushSellers$Company", name := "rings", desc := "(III)I" } : Jvm.MethodName) prog_2_method_21_code (7 : Nat) (Option.some Jvm.ClassFile.FieldType.int)) ∈ lw_all := lw_g (lw_at lw_m6 98 rfl) rfl
theorem q1362 : (Jvm.Cond.methodLink "BrushSellers$Company" (132 : Nat) ({ cls := "java/util/LinkedList", name := "size", desc := "()I" } : Jvm.MethodName)) ∈ lw_all := lw_g (lw_at lw_m6 99 rfl) rfl
theorem q1363 : (Jvm.Cond.methodLink "BrushSellers$Company" (214 : Nat) ({ cls := "BrushSellers$House", name := "pleases", desc := "(I)V" } : Jvm.MethodName)) ∈ lw_all := lw_g (lw_at lw_m6 100 rfl) rfl
theorem q1368 : (Jvm.Cond.methodLink "BrushSellers$Company" (217 : Nat) ({ cls := "BrushSellers$House", name := "buys", desc := "(II)V" } : Jvm.MethodName)) ∈ lw_all := lw_g (lw_at lw_m6 105 rfl) rfl
theorem q1381 : (Jvm.Cond.methodLink "BrushSellers$Company" (221 : Nat) ({ cls := "BrushSellers$Sale", name := "<init>", desc := "(IIIIII)V" } : Jvm.MethodName)) ∈ lw_all := lw_g (lw_at lw_m6 118 rfl) rfl
theorem q1382 : (Jvm.Cond.methodLink "BrushSellers$Company" (224 : Nat) ({ cls := "BrushSellers$Company", name := "sells", desc := "(LBrushSellers$Seller;LBrushSellers$Sale;)V" } : Jvm.MethodName)) ∈ lw_all := lw_g (lw_at lw_m6 119 rfl) rfl
theorem q1383 : (Jvm.Cond.privateMethod ({ cls := "BrushSellers$Company", name := "sells", desc := "(LBrushSellers$Seller;LBrushSellers$Sale;)V" } : Jvm.MethodName)) ∈ lw_tbl := lw_at lw_m6 120 rfl
theorem q1384 : (Jvm.Cond.instanceMethod ({ cls := "BrushSellers$Company", name := "sells", desc := "(LBrushSellers$Seller;LBrushSellers$Sale;)V" } : Jvm.MethodName)) ∈ lw_all := lw_g (lw_at lw_m6 121 rfl) rfl
theorem q1385 : (Jvm.Cond.code ({ cls := "BrushSellers$Company", name := "sells", desc := "(LBrushSellers$Seller;LBrushSellers$Sale;)V" } : Jvm.MethodName) prog_2_method_22_code (3 : Nat) (Option.none : Option Jvm.ClassFile.FieldType)) ∈ lw_all := lw_g (lw_at lw_m6 122 rfl) rfl
theorem q1386 : (Jvm.Cond.methodLink "BrushSellers$Company" (236 : Nat) ({ cls := "BrushSellers$Sale", name := "coins", desc := "()I" } : Jvm.MethodName)) ∈ lw_all := lw_g (lw_at lw_m6 123 rfl) rfl
theorem q1395 : (Jvm.Cond.instanceMethod ({ cls := "BrushSellers$Company", name := "isSale", desc := "(I)Z" } : Jvm.MethodName)) ∈ lw_all := lw_g (lw_at lw_m6 132 rfl) rfl
theorem q1396 : (Jvm.Cond.selects "BrushSellers$Company" ({ cls := "BrushSellers$Company", name := "isSale", desc := "(I)Z" } : Jvm.MethodName) ({ cls := "BrushSellers$Company", name := "isSale", desc := "(I)Z" } : Jvm.MethodName)) ∈ lw_all := lw_g (lw_at lw_m6 133 rfl) rfl
theorem q1397 : (Jvm.Cond.code ({ cls := "BrushSellers$Company", name := "isSale", desc := "(I)Z" } : Jvm.MethodName) prog_2_method_5_code (2 : Nat) (Option.some Jvm.ClassFile.FieldType.boolean)) ∈ lw_all := lw_g (lw_at lw_m6 134 rfl) rfl
theorem q1399 : (Jvm.Cond.instanceMethod ({ cls := "BrushSellers$Company", name := "takesBack", desc := "(I)I" } : Jvm.MethodName)) ∈ lw_all := lw_g (lw_at lw_m6 136 rfl) rfl
theorem q1400 : (Jvm.Cond.selects "BrushSellers$Company" ({ cls := "BrushSellers$Company", name := "takesBack", desc := "(I)I" } : Jvm.MethodName) ({ cls := "BrushSellers$Company", name := "takesBack", desc := "(I)I" } : Jvm.MethodName)) ∈ lw_all := lw_g (lw_at lw_m6 137 rfl) rfl
theorem q1401 : (Jvm.Cond.code ({ cls := "BrushSellers$Company", name := "takesBack", desc := "(I)I" } : Jvm.MethodName) prog_2_method_23_code (5 : Nat) (Option.some Jvm.ClassFile.FieldType.int)) ∈ lw_all := lw_g (lw_at lw_m6 138 rfl) rfl
theorem q1402 : (Jvm.Cond.methodLink "BrushSellers$Company" (238 : Nat) ({ cls := "java/util/LinkedList", name := "get", desc := "(I)Ljava/lang/Object;" } : Jvm.MethodName)) ∈ lw_all := lw_g (lw_at lw_m6 139 rfl) rfl
theorem q1418 : (Jvm.Cond.instanceMethod ({ cls := "BrushSellers$Company", name := "dayEnds", desc := "()I" } : Jvm.MethodName)) ∈ lw_all := lw_g (lw_at lw_m6 155 rfl) rfl
theorem q1419 : (Jvm.Cond.selects "BrushSellers$Company" ({ cls := "BrushSellers$Company", name := "dayEnds", desc := "()I" } : Jvm.MethodName) ({ cls := "BrushSellers$Company", name := "dayEnds", desc := "()I" } : Jvm.MethodName)) ∈ lw_all := lw_g (lw_at lw_m6 156 rfl) rfl
theorem q1420 : (Jvm.Cond.code ({ cls := "BrushSellers$Company", name := "dayEnds", desc := "()I" } : Jvm.MethodName) prog_2_method_24_code (3 : Nat) (Option.some Jvm.ClassFile.FieldType.int)) ∈ lw_all := lw_g (lw_at lw_m6 157 rfl) rfl
theorem q1421 : (Jvm.Cond.methodLink "BrushSellers$Company" (251 : Nat) ({ cls := "BrushSellers$House", name := "dayEnds", desc := "()V" } : Jvm.MethodName)) ∈ lw_all := lw_g (lw_at lw_m6 158 rfl) rfl
theorem q1769 : (Jvm.Cond.instanceMethod ({ cls := "BrushSellers$Company", name := "streetTold", desc := "()Ljava/lang/String;" } : Jvm.MethodName)) ∈ lw_all := lw_g (lw_at lw_m8 26 rfl) rfl
theorem q1770 : (Jvm.Cond.selects "BrushSellers$Company" ({ cls := "BrushSellers$Company", name := "streetTold", desc := "()Ljava/lang/String;" } : Jvm.MethodName) ({ cls := "BrushSellers$Company", name := "streetTold", desc := "()Ljava/lang/String;" } : Jvm.MethodName)) ∈ lw_all := lw_g (lw_at lw_m8 27 rfl) rfl
theorem q1771 : (Jvm.Cond.code ({ cls := "BrushSellers$Company", name := "streetTold", desc := "()Ljava/lang/String;" } : Jvm.MethodName) prog_2_method_31_code (4 : Nat) (Option.some (Jvm.ClassFile.FieldType.object "java/lang/String"))) ∈ lw_all := lw_g (lw_at lw_m8 28 rfl) rfl
theorem q1772 : (Jvm.Cond.classLink "BrushSellers$Company" (270 : Nat) "java/lang/StringBuilder") ∈ lw_all := lw_g (lw_at lw_m8 29 rfl) rfl
theorem q1773 : (Jvm.Cond.methodLink "BrushSellers$Company" (272 : Nat) ({ cls := "java/lang/StringBuilder", name := "<init>", desc := "()V" } : Jvm.MethodName)) ∈ lw_all := lw_g (lw_at lw_m8 30 rfl) rfl
theorem q1774 : (Jvm.Cond.methodLink "BrushSellers$Company" (273 : Nat) ({ cls := "BrushSellers$House", name := "text", desc := "()Ljava/lang/String;" } : Jvm.MethodName)) ∈ lw_all := lw_g (lw_at lw_m8 31 rfl) rfl
theorem q1787 : (Jvm.Cond.methodLink "BrushSellers$Company" (277 : Nat) ({ cls := "java/lang/StringBuilder", name := "append", desc := "(Ljava/lang/String;)Ljava/lang/StringBuilder;" } : Jvm.MethodName)) ∈ lw_all := lw_g (lw_at lw_m8 44 rfl) rfl
theorem q1788 : (Jvm.Cond.methodLink "BrushSellers$Company" (281 : Nat) ({ cls := "java/lang/StringBuilder", name := "toString", desc := "()Ljava/lang/String;" } : Jvm.MethodName)) ∈ lw_all := lw_g (lw_at lw_m8 45 rfl) rfl
theorem q1805 : (Jvm.Cond.instanceMethod ({ cls := "BrushSellers$Company", name := "inDepot", desc := "()I" } : Jvm.MethodName)) ∈ lw_all := lw_g (lw_at lw_m8 62 rfl) rfl
theorem q1806 : (Jvm.Cond.selects "BrushSellers$Company" ({ cls := "BrushSellers$Company", name := "inDepot", desc := "()I" } : Jvm.MethodName) ({ cls := "BrushSellers$Company", name := "inDepot", desc := "()I" } : Jvm.MethodName)) ∈ lw_all := lw_g (lw_at lw_m8 63 rfl) rfl
theorem q1807 : (Jvm.Cond.code ({ cls := "BrushSellers$Company", name := "inDepot", desc := "()I" } : Jvm.MethodName) prog_2_method_25_code (1 : Nat) (Option.some Jvm.ClassFile.FieldType.int)) ∈ lw_all := lw_g (lw_at lw_m8 64 rfl) rfl
theorem q1809 : (Jvm.Cond.instanceMethod ({ cls := "BrushSellers$Company", name := "inCases", desc := "()I" } : Jvm.MethodName)) ∈ lw_all := lw_g (lw_at lw_m8 66 rfl) rfl
theorem q1810 : (Jvm.Cond.selects "BrushSellers$Company" ({ cls := "BrushSellers$Company", name := "inCases", desc := "()I" } : Jvm.MethodName) ({ cls := "BrushSellers$Company", name := "inCases", desc := "()I" } : Jvm.MethodName)) ∈ lw_all := lw_g (lw_at lw_m8 67 rfl) rfl
theorem q1811 : (Jvm.Cond.code ({ cls := "BrushSellers$Company", name := "inCases", desc := "()I" } : Jvm.MethodName) prog_2_method_26_code (4 : Nat) (Option.some Jvm.ClassFile.FieldType.int)) ∈ lw_all := lw_g (lw_at lw_m8 68 rfl) rfl
theorem q1812 : (Jvm.Cond.methodLink "BrushSellers$Company" (254 : Nat) ({ cls := "BrushSellers$Seller", name := "all", desc := "()I" } : Jvm.MethodName)) ∈ lw_all := lw_g (lw_at lw_m8 69 rfl) rfl
theorem q1817 : (Jvm.Cond.instanceMethod ({ cls := "BrushSellers$Company", name := "sold", desc := "()I" } : Jvm.MethodName)) ∈ lw_all := lw_g (lw_at lw_m8 74 rfl) rfl
theorem q1818 : (Jvm.Cond.selects "BrushSellers$Company" ({ cls := "BrushSellers$Company", name := "sold", desc := "()I" } : Jvm.MethodName) ({ cls := "BrushSellers$Company", name := "sold", desc := "()I" } : Jvm.MethodName)) ∈ lw_all := lw_g (lw_at lw_m8 75 rfl) rfl
theorem q1819 : (Jvm.Cond.code ({ cls := "BrushSellers$Company", name := "sold", desc := "()I" } : Jvm.MethodName) prog_2_method_27_code (4 : Nat) (Option.some Jvm.ClassFile.FieldType.int)) ∈ lw_all := lw_g (lw_at lw_m8 76 rfl) rfl
theorem q1821 : (Jvm.Cond.instanceMethod ({ cls := "BrushSellers$Company", name := "back", desc := "()I" } : Jvm.MethodName)) ∈ lw_all := lw_g (lw_at lw_m8 78 rfl) rfl
theorem q1822 : (Jvm.Cond.selects "BrushSellers$Company" ({ cls := "BrushSellers$Company", name := "back", desc := "()I" } : Jvm.MethodName) ({ cls := "BrushSellers$Company", name := "back", desc := "()I" } : Jvm.MethodName)) ∈ lw_all := lw_g (lw_at lw_m8 79 rfl) rfl
theorem q1823 : (Jvm.Cond.code ({ cls := "BrushSellers$Company", name := "back", desc := "()I" } : Jvm.MethodName) prog_2_method_28_code (4 : Nat) (Option.some Jvm.ClassFile.FieldType.int)) ∈ lw_all := lw_g (lw_at lw_m8 80 rfl) rfl
theorem q1830 : (Jvm.Cond.instanceMethod ({ cls := "BrushSellers$Company", name := "isBalanced", desc := "()Z" } : Jvm.MethodName)) ∈ lw_all := lw_g (lw_at lw_m8 87 rfl) rfl
theorem q1831 : (Jvm.Cond.selects "BrushSellers$Company" ({ cls := "BrushSellers$Company", name := "isBalanced", desc := "()Z" } : Jvm.MethodName) ({ cls := "BrushSellers$Company", name := "isBalanced", desc := "()Z" } : Jvm.MethodName)) ∈ lw_all := lw_g (lw_at lw_m8 88 rfl) rfl
theorem q1832 : (Jvm.Cond.code ({ cls := "BrushSellers$Company", name := "isBalanced", desc := "()Z" } : Jvm.MethodName) prog_2_method_30_code (2 : Nat) (Option.some Jvm.ClassFile.FieldType.boolean)) ∈ lw_all := lw_g (lw_at lw_m8 89 rfl) rfl
theorem q1833 : (Jvm.Cond.methodLink "BrushSellers$Company" (260 : Nat) ({ cls := "BrushSellers$Company", name := "inDepot", desc := "()I" } : Jvm.MethodName)) ∈ lw_all := lw_g (lw_at lw_m8 90 rfl) rfl
theorem q1834 : (Jvm.Cond.methodLink "BrushSellers$Company" (263 : Nat) ({ cls := "BrushSellers$Company", name := "inCases", desc := "()I" } : Jvm.MethodName)) ∈ lw_all := lw_g (lw_at lw_m8 91 rfl) rfl
theorem q1835 : (Jvm.Cond.methodLink "BrushSellers$Company" (266 : Nat) ({ cls := "BrushSellers$Company", name := "sold", desc := "()I" } : Jvm.MethodName)) ∈ lw_all := lw_g (lw_at lw_m8 92 rfl) rfl
theorem q1836 : (Jvm.Cond.methodLink "BrushSellers$Company" (268 : Nat) ({ cls := "BrushSellers$Company", name := "back", desc := "()I" } : Jvm.MethodName)) ∈ lw_all := lw_g (lw_at lw_m8 93 rfl) rfl
theorem q1842 : (Jvm.Cond.instanceMethod ({ cls := "BrushSellers$Company", name := "tempers", desc := "()I" } : Jvm.MethodName)) ∈ lw_all := lw_g (lw_at lw_m8 99 rfl) rfl
theorem q1843 : (Jvm.Cond.selects "BrushSellers$Company" ({ cls := "BrushSellers$Company", name := "tempers", desc := "()I" } : Jvm.MethodName) ({ cls := "BrushSellers$Company", name := "tempers", desc := "()I" } : Jvm.MethodName)) ∈ lw_all := lw_g (lw_at lw_m8 100 rfl) rfl
theorem q1844 : (Jvm.Cond.code ({ cls := "BrushSellers$Company", name := "tempers", desc := "()I" } : Jvm.MethodName) prog_2_method_29_code (4 : Nat) (Option.some Jvm.ClassFile.FieldType.int)) ∈ lw_all := lw_g (lw_at lw_m8 101 rfl) rfl
theorem q2254 : (Jvm.Cond.castable "BrushSellers$Company" "java/lang/Object") ∈ lw_tbl := lw_at lw_m10 31 rfl
theorem in_X1 : ∀ w ∈ wsX10, w ∈ lw_all := lw_in wsX10 [324, 326, 328, 330, 332, 334, 336, 338, 340, 342, 344, 346, 348, 350] (by decide +kernel) (by decide +kernel)

/-! BrushSellers$Wrong -/
set_option maxRecDepth 100000
def RX10 : String := "BrushSellers$Wrong"
def TX10 : u_T := fun k => match k with
  | 0 => ("java/lang/Throwable", "cause", "Ljava/lang/Throwable;", false)
  | 1 => ("java/lang/Throwable", "stackTrace", "[Ljava/lang/StackTraceElement;", false)
  | 2 => ("java/lang/Throwable", "suppressedExceptions", "Ljava/util/List;", false)
  | 3 => ("java/lang/Throwable", "detailMessage", "Ljava/lang/String;", false)
  | 4 => ("java/lang/Throwable", "backtrace", "Ljava/lang/Object;", false)
  | 5 => ("java/lang/Throwable", "depth", "I", false)
  | _ => ("BrushSellers$Wrong", "at", "I", true)
def tyX10 : Nat → FieldType := fun k => match k with
  | 0 => .object "java/lang/Throwable"
  | 1 => .array (.object "java/lang/StackTraceElement")
  | 2 => .object "java/util/List"
  | 3 => .object "java/lang/String"
  | 4 => .object "java/lang/Object"
  | 5 => .int
  | _ => .int
abbrev wsX100 : List Cond := u_ws RX10 TX10 7
theorem nmX10 : ∀ a, a < 7 → ∀ b, b < 7 → a ≠ b → (TX10 a).2.1 ≠ (TX10 b).2.1 := by decide +kernel
theorem tyX10_ok : ∀ k, k < 7 → parseFieldDescriptor (TX10 k).2.2.1 = some (tyX10 k) := by decide +kernel
abbrev cX10_init : ByteArray := prog_10_method_1_code
def yX10_init : MethodName := ⟨RX10, "<init>", "(I)V"⟩
def dkwX10_init_0 : List UInt8 := [42, 1, 1, 3, 3, 183, 0, 1, 42, 27, 181, 0, 7, 177]
abbrev dktX10_init_0 : List UInt8 := dkwX10_init_0 ++ []
theorem dksX10_init_0 : cX10_init.data.toList.drop 0 = dktX10_init_0 := by decide +kernel
theorem dX10_init_0 : decode cX10_init 0 = .ok (.aload_n 0, 1) := dk_42 (dk_at dksX10_init_0 0 rfl rfl)
theorem dX10_init_1 : decode cX10_init 1 = .ok (.aconst_null, 1) := dk_1 (dk_at dksX10_init_0 1 rfl rfl)
theorem dX10_init_2 : decode cX10_init 2 = .ok (.aconst_null, 1) := dk_1 (dk_at dksX10_init_0 2 rfl rfl)
theorem dX10_init_3 : decode cX10_init 3 = .ok (.iconst 0, 1) := dk_3 (dk_at dksX10_init_0 3 rfl rfl)
theorem dX10_init_4 : decode cX10_init 4 = .ok (.iconst 0, 1) := dk_3 (dk_at dksX10_init_0 4 rfl rfl)
theorem dX10_init_5 : decode cX10_init 5 = .ok (.invokespecial 1, 3) := dk_183 0 1 (dk_at dksX10_init_0 5 rfl rfl)
theorem dX10_init_8 : decode cX10_init 8 = .ok (.aload_n 0, 1) := dk_42 (dk_at dksX10_init_0 8 rfl rfl)
theorem dX10_init_9 : decode cX10_init 9 = .ok (.iload_n 1, 1) := dk_27 (dk_at dksX10_init_0 9 rfl rfl)
theorem dX10_init_10 : decode cX10_init 10 = .ok (.putfield 7, 3) := dk_181 0 7 (dk_at dksX10_init_0 10 rfl rfl)
theorem dX10_init_13 : decode cX10_init 13 = .ok (.return_, 1) := dk_177 (dk_at dksX10_init_0 13 rfl rfl)
theorem q105 : (Jvm.Cond.initialized "BrushSellers$Wrong") ∈ lw_all := lw_g (lw_at lw_m1 42 rfl) rfl
theorem q268 : (Jvm.Cond.selects "BrushSellers$Wrong" ({ cls := "java/lang/Object", name := "getClass", desc := "()Ljava/lang/Class;" } : Jvm.MethodName) ({ cls := "java/lang/Object", name := "getClass", desc := "()Ljava/lang/Class;" } : Jvm.MethodName)) ∈ lw_all := lw_g (lw_at lw_m1 205 rfl) rfl
theorem q617 : (Jvm.Cond.selects "BrushSellers$Wrong" ({ cls := "java/lang/Throwable", name := "fillInStackTrace", desc := "()Ljava/lang/Throwable;" } : Jvm.MethodName) ({ cls := "java/lang/Throwable", name := "fillInStackTrace", desc := "()Ljava/lang/Throwable;" } : Jvm.MethodName)) ∈ lw_all := lw_g (lw_at lw_m3 74 rfl) rfl
theorem q640 : (Jvm.Cond.selects "BrushSellers$Wrong" ({ cls := "java/lang/Throwable", name := "toString", desc := "()Ljava/lang/String;" } : Jvm.MethodName) ({ cls := "java/lang/Throwable", name := "toString", desc := "()Ljava/lang/String;" } : Jvm.MethodName)) ∈ lw_all := lw_g (lw_at lw_m3 97 rfl) rfl
theorem q648 : (Jvm.Cond.selects "BrushSellers$Wrong" ({ cls := "java/lang/Throwable", name := "getLocalizedMessage", desc := "()Ljava/lang/String;" } : Jvm.MethodName) ({ cls := "java/lang/Throwable", name := "getLocalizedMessage", desc := "()Ljava/lang/String;" } : Jvm.MethodName)) ∈ lw_all := lw_g (lw_at lw_m3 105 rfl) rfl
theorem q655 : (Jvm.Cond.selects "BrushSellers$Wrong" ({ cls := "java/lang/Throwable", name := "getMessage", desc := "()Ljava/lang/String;" } : Jvm.MethodName) ({ cls := "java/lang/Throwable", name := "getMessage", desc := "()Ljava/lang/String;" } : Jvm.MethodName)) ∈ lw_all := lw_g (lw_at lw_m3 112 rfl) rfl
theorem q1554 : (Jvm.Cond.instantiable "BrushSellers$Wrong" (7 : Nat)) ∈ lw_all := lw_g (lw_at lw_m7 51 rfl) rfl
theorem q1555 : (Jvm.Cond.castable "BrushSellers$Wrong" "BrushSellers$Wrong") ∈ lw_tbl := lw_at lw_m7 52 rfl
theorem q1556 : (Jvm.Cond.selects "BrushSellers$Wrong" ({ cls := "java/lang/Throwable", name := "fillInStackTrace", desc := "(I)Ljava/lang/Throwable;" } : Jvm.MethodName) ({ cls := "java/lang/Throwable", name := "fillInStackTrace", desc := "(I)Ljava/lang/Throwable;" } : Jvm.MethodName)) ∈ lw_all := lw_g (lw_at lw_m7 53 rfl) rfl
theorem q1557 : (Jvm.Cond.lays "BrushSellers$Wrong" "java/lang/Throwable" "cause" "Ljava/lang/Throwable;") ∈ lw_all := lw_g (lw_at lw_m7 54 rfl) rfl
theorem q1558 : (Jvm.Cond.lays "BrushSellers$Wrong" "java/lang/Throwable" "stackTrace" "[Ljava/lang/StackTraceElement;") ∈ lw_all := lw_g (lw_at lw_m7 55 rfl) rfl
theorem q1559 : (Jvm.Cond.lays "BrushSellers$Wrong" "java/lang/Throwable" "suppressedExceptions" "Ljava/util/List;") ∈ lw_all := lw_g (lw_at lw_m7 56 rfl) rfl
theorem q1560 : (Jvm.Cond.lays "BrushSellers$Wrong" "java/lang/Throwable" "detailMessage" "Ljava/lang/String;") ∈ lw_all := lw_g (lw_at lw_m7 57 rfl) rfl
theorem q1561 : (Jvm.Cond.lays "BrushSellers$Wrong" "java/lang/Throwable" "backtrace" "Ljava/lang/Object;") ∈ lw_all := lw_g (lw_at lw_m7 58 rfl) rfl
theorem q1563 : (Jvm.Cond.instanceMethod ({ cls := "BrushSellers$Wrong", name := "<init>", desc := "(I)V" } : Jvm.MethodName)) ∈ lw_all := lw_g (lw_at lw_m7 60 rfl) rfl
theorem q1564 : (Jvm.Cond.code ({ cls := "BrushSellers$Wrong", name := "<init>", desc := "(I)V" } : Jvm.MethodName) prog_10_method_1_code (2 : Nat) (Option.none : Option Jvm.ClassFile.FieldType)) ∈ lw_all := lw_g (lw_at lw_m7 61 rfl) rfl
theorem q1565 : (Jvm.Cond.methodLink "BrushSellers$Wrong" (1 : Nat) ({ cls := "java/lang/Exception", name := "<init>", desc := "(Ljava/lang/String;Ljava/lang/Throwable;ZZ)V" } : Jvm.MethodName)) ∈ lw_all := lw_g (lw_at lw_m7 62 rfl) rfl
theorem q1566 : (Jvm.Cond.fieldLink "BrushSellers$Wrong" (7 : Nat) "BrushSellers$Wrong" "at" "I") ∈ lw_all := lw_g (lw_at lw_m7 63 rfl) rfl
theorem q1568 : (Jvm.Cond.laysFinal "BrushSellers$Wrong" "BrushSellers$Wrong" "at" "I") ∈ lw_all := lw_g (lw_at lw_m7 65 rfl) rfl
theorem q1569 : (Jvm.Cond.soleField "BrushSellers$Wrong" "at") ∈ lw_all := lw_g (lw_at lw_m7 66 rfl) rfl
theorem q1570 : (Jvm.Cond.lays "BrushSellers$Wrong" "java/lang/Throwable" "depth" "I") ∈ lw_all := lw_g (lw_at lw_m7 67 rfl) rfl
theorem q1571 : (Jvm.Cond.superclass "BrushSellers$Wrong" "java/lang/Exception") ∈ lw_all := lw_g (lw_at lw_m7 68 rfl) rfl
theorem q2273 : (Jvm.Cond.castable "BrushSellers$Wrong" "java/lang/Object") ∈ lw_tbl := lw_at lw_m10 50 rfl
theorem in_X10 : ∀ w ∈ wsX100, w ∈ lw_all := lw_in wsX100 [1557, 1558, 1559, 1560, 1561, 1570, 1568] (by decide +kernel) (by decide +kernel)

/-! BrushSellers$House -/
set_option maxRecDepth 100000
def RX2 : String := "BrushSellers$House"
def TX2 : u_T := fun k => match k with
  | 0 => ("BrushSellers$House", "number", "I", true)
  | 1 => ("BrushSellers$House", "temper", "I", false)
  | 2 => ("BrushSellers$House", "dog", "I", false)
  | 3 => ("BrushSellers$House", "bought", "I", false)
  | _ => ("BrushSellers$House", "bristles", "Ljava/util/BitSet;", true)
def tyX2 : Nat → FieldType := fun k => match k with
  | 0 => .int
  | 1 => .int
  | 2 => .int
  | 3 => .int
  | _ => .object "java/util/BitSet"
abbrev wsX20 : List Cond := u_ws RX2 TX2 5
theorem nmX2 : ∀ a, a < 5 → ∀ b, b < 5 → a ≠ b → (TX2 a).2.1 ≠ (TX2 b).2.1 := by decide +kernel
theorem tyX2_ok : ∀ k, k < 5 → parseFieldDescriptor (TX2 k).2.2.1 = some (tyX2 k) := by decide +kernel
abbrev cX2_init : ByteArray := prog_3_method_1_code
def yX2_init : MethodName := ⟨RX2, "<init>", "(I)V"⟩
def dkwX2_init_1 : List UInt8 := [181, 0, 23, 42, 27, 181, 0, 27, 177]
abbrev dktX2_init_1 : List UInt8 := dkwX2_init_1 ++ []
def dkwX2_init_0 : List UInt8 := [42, 183, 0, 3, 42, 8, 181, 0, 9, 42, 16, 241, 181, 0, 15, 42, 187, 0, 18, 89, 6, 183, 0, 20]
abbrev dktX2_init_0 : List UInt8 := dkwX2_init_0 ++ dktX2_init_1
theorem dksX2_init_0 : cX2_init.data.toList.drop 0 = dktX2_init_0 := by decide +kernel
theorem dksX2_init_1 : cX2_init.data.toList.drop 24 = dktX2_init_1 := dk_seg dksX2_init_0 24 rfl rfl
theorem dX2_init_0 : decode cX2_init 0 = .ok (.aload_n 0, 1) := dk_42 (dk_at dksX2_init_0 0 rfl rfl)
theorem dX2_init_1 : decode cX2_init 1 = .ok (.invokespecial 3, 3) := dk_183 0 3 (dk_at dksX2_init_0 1 rfl rfl)
theorem dX2_init_4 : decode cX2_init 4 = .ok (.aload_n 0, 1) := dk_42 (dk_at dksX2_init_0 4 rfl rfl)
theorem dX2_init_5 : decode cX2_init 5 = .ok (.iconst 5, 1) := dk_8 (dk_at dksX2_init_0 5 rfl rfl)
theorem dX2_init_6 : decode cX2_init 6 = .ok (.putfield 9, 3) := dk_181 0 9 (dk_at dksX2_init_0 6 rfl rfl)
theorem dX2_init_9 : decode cX2_init 9 = .ok (.aload_n 0, 1) := dk_42 (dk_at dksX2_init_0 9 rfl rfl)
theorem dX2_init_10 : decode cX2_init 10 = .ok (.bipush (-15), 2) := dk_16 241 (dk_at dksX2_init_0 10 rfl rfl)
theorem dX2_init_12 : decode cX2_init 12 = .ok (.putfield 15, 3) := dk_181 0 15 (dk_at dksX2_init_0 12 rfl rfl)
theorem dX2_init_15 : decode cX2_init 15 = .ok (.aload_n 0, 1) := dk_42 (dk_at dksX2_init_0 15 rfl rfl)
theorem dX2_init_16 : decode cX2_init 16 = .ok (.new 18, 3) := dk_187 0 18 (dk_at dksX2_init_0 16 rfl rfl)
theorem dX2_init_19 : decode cX2_init 19 = .ok (.dup, 1) := dk_89 (dk_at dksX2_init_0 19 rfl rfl)
theorem dX2_init_20 : decode cX2_init 20 = .ok (.iconst 3, 1) := dk_6 (dk_at dksX2_init_0 20 rfl rfl)
theorem dX2_init_21 : decode cX2_init 21 = .ok (.invokespecial 20, 3) := dk_183 0 20 (dk_at dksX2_init_0 21 rfl rfl)
theorem dX2_init_24 : decode cX2_init 24 = .ok (.putfield 23, 3) := dk_181 0 23 (dk_at dksX2_init_1 0 rfl rfl)
theorem dX2_init_27 : decode cX2_init 27 = .ok (.aload_n 0, 1) := dk_42 (dk_at dksX2_init_1 3 rfl rfl)
theorem dX2_init_28 : decode cX2_init 28 = .ok (.iload_n 1, 1) := dk_27 (dk_at dksX2_init_1 4 rfl rfl)
theorem dX2_init_29 : decode cX2_init 29 = .ok (.putfield 27, 3) := dk_181 0 27 (dk_at dksX2_init_1 5 rfl rfl)
theorem dX2_init_32 : decode cX2_init 32 = .ok (.return_, 1) := dk_177 (dk_at dksX2_init_1 8 rfl rfl)
abbrev cX2_copy : ByteArray := prog_3_method_2_code
def yX2_copy : MethodName := ⟨RX2, "copy", "()LBrushSellers$House;"⟩
def dkwX2_copy_2 : List UInt8 := [182, 0, 34, 43, 176]
abbrev dktX2_copy_2 : List UInt8 := dkwX2_copy_2 ++ []
def dkwX2_copy_1 : List UInt8 := [180, 0, 15, 181, 0, 15, 43, 42, 180, 0, 31, 181, 0, 31, 43, 180, 0, 23, 42, 180, 0, 23]
abbrev dktX2_copy_1 : List UInt8 := dkwX2_copy_1 ++ dktX2_copy_2
def dkwX2_copy_0 : List UInt8 := [187, 0, 10, 89, 42, 180, 0, 27, 183, 0, 30, 76, 43, 42, 180, 0, 9, 181, 0, 9, 43, 42]
abbrev dktX2_copy_0 : List UInt8 := dkwX2_copy_0 ++ dktX2_copy_1
theorem dksX2_copy_0 : cX2_copy.data.toList.drop 0 = dktX2_copy_0 := by decide +kernel
theorem dksX2_copy_1 : cX2_copy.data.toList.drop 22 = dktX2_copy_1 := dk_seg dksX2_copy_0 22 rfl rfl
theorem dksX2_copy_2 : cX2_copy.data.toList.drop 44 = dktX2_copy_2 := dk_seg dksX2_copy_1 22 rfl rfl
theorem dX2_copy_0 : decode cX2_copy 0 = .ok (.new 10, 3) := dk_187 0 10 (dk_at dksX2_copy_0 0 rfl rfl)
theorem dX2_copy_3 : decode cX2_copy 3 = .ok (.dup, 1) := dk_89 (dk_at dksX2_copy_0 3 rfl rfl)
theorem dX2_copy_4 : decode cX2_copy 4 = .ok (.aload_n 0, 1) := dk_42 (dk_at dksX2_copy_0 4 rfl rfl)
theorem dX2_copy_5 : decode cX2_copy 5 = .ok (.getfield 27, 3) := dk_180 0 27 (dk_at dksX2_copy_0 5 rfl rfl)
theorem dX2_copy_8 : decode cX2_copy 8 = .ok (.invokespecial 30, 3) := dk_183 0 30 (dk_at dksX2_copy_0 8 rfl rfl)
theorem dX2_copy_11 : decode cX2_copy 11 = .ok (.astore_n 1, 1) := dk_76 (dk_at dksX2_copy_0 11 rfl rfl)
theorem dX2_copy_12 : decode cX2_copy 12 = .ok (.aload_n 1, 1) := dk_43 (dk_at dksX2_copy_0 12 rfl rfl)
theorem dX2_copy_13 : decode cX2_copy 13 = .ok (.aload_n 0, 1) := dk_42 (dk_at dksX2_copy_0 13 rfl rfl)
theorem dX2_copy_14 : decode cX2_copy 14 = .ok (.getfield 9, 3) := dk_180 0 9 (dk_at dksX2_copy_0 14 rfl rfl)
theorem dX2_copy_17 : decode cX2_copy 17 = .ok (.putfield 9, 3) := dk_181 0 9 (dk_at dksX2_copy_0 17 rfl rfl)
theorem dX2_copy_20 : decode cX2_copy 20 = .ok (.aload_n 1, 1) := dk_43 (dk_at dksX2_copy_0 20 rfl rfl)
theorem dX2_copy_21 : decode cX2_copy 21 = .ok (.aload_n 0, 1) := dk_42 (dk_at dksX2_copy_0 21 rfl rfl)
theorem dX2_copy_22 : decode cX2_copy 22 = .ok (.getfield 15, 3) := dk_180 0 15 (dk_at dksX2_copy_1 0 rfl rfl)
theorem dX2_copy_25 : decode cX2_copy 25 = .ok (.putfield 15, 3) := dk_181 0 15 (dk_at dksX2_copy_1 3 rfl rfl)
theorem dX2_copy_28 : decode cX2_copy 28 = .ok (.aload_n 1, 1) := dk_43 (dk_at dksX2_copy_1 6 rfl rfl)
theorem dX2_copy_29 : decode cX2_copy 29 = .ok (.aload_n 0, 1) := dk_42 (dk_at dksX2_copy_1 7 rfl rfl)
theorem dX2_copy_30 : decode cX2_copy 30 = .ok (.getfield 31, 3) := dk_180 0 31 (dk_at dksX2_copy_1 8 rfl rfl)
theorem dX2_copy_33 : decode cX2_copy 33 = .ok (.putfield 31, 3) := dk_181 0 31 (dk_at dksX2_copy_1 11 rfl rfl)
theorem dX2_copy_36 : decode cX2_copy 36 = .ok (.aload_n 1, 1) := dk_43 (dk_at dksX2_copy_1 14 rfl rfl)
theorem dX2_copy_37 : decode cX2_copy 37 = .ok (.getfield 23, 3) := dk_180 0 23 (dk_at dksX2_copy_1 15 rfl rfl)
theorem dX2_copy_40 : decode cX2_copy 40 = .ok (.aload_n 0, 1) := dk_42 (dk_at dksX2_copy_1 18 rfl rfl)
theorem dX2_copy_41 : decode cX2_copy 41 = .ok (.getfield 23, 3) := dk_180 0 23 (dk_at dksX2_copy_1 19 rfl rfl)
theorem dX2_copy_44 : decode cX2_copy 44 = .ok (.invokevirtual 34, 3) := dk_182 0 34 (dk_at dksX2_copy_2 0 rfl rfl)
theorem dX2_copy_47 : decode cX2_copy 47 = .ok (.aload_n 1, 1) := dk_43 (dk_at dksX2_copy_2 3 rfl rfl)
theorem dX2_copy_48 : decode cX2_copy 48 = .ok (.areturn, 1) := dk_176 (dk_at dksX2_copy_2 4 rfl rfl)
abbrev cX2_house : ByteArray := prog_3_method_3_code
def yX2_house : MethodName := ⟨RX2, "house", "()I"⟩
theorem dX2_house_0 : decode cX2_house 0 = .ok (.aload_n 0, 1) := by decide +kernel
theorem dX2_house_1 : decode cX2_house 1 = .ok (.getfield 27, 3) := by decide +kernel
theorem dX2_house_4 : decode cX2_house 4 = .ok (.ireturn, 1) := by decide +kernel
abbrev cX2_value : ByteArray := prog_3_method_13_code
def yX2_value : MethodName := ⟨RX2, "value", "(I)I"⟩
def dkwX2_value_3 : List UInt8 := [180, 0, 31, 167, 0, 12, 42, 182, 0, 93, 167, 0, 5, 16, 244, 172]
abbrev dktX2_value_3 : List UInt8 := dkwX2_value_3 ++ []
def dkwX2_value_2 : List UInt8 := [42, 182, 0, 66, 167, 0, 33, 42, 180, 0, 9, 167, 0, 26, 42, 180, 0, 15, 167, 0, 19, 42]
abbrev dktX2_value_2 : List UInt8 := dkwX2_value_2 ++ dktX2_value_3
def dkwX2_value_1 : List UInt8 := [170, 0, 0, 0, 0, 0, 70, 0, 0, 0, 0, 0, 0, 0, 4, 0, 0, 0, 35, 0, 0, 0, 42, 0, 0, 0, 49, 0, 0, 0, 56, 0, 0, 0, 63]
abbrev dktX2_value_1 : List UInt8 := dkwX2_value_1 ++ dktX2_value_2
def dkwX2_value_0 : List UInt8 := [27]
abbrev dktX2_value_0 : List UInt8 := dkwX2_value_0 ++ dktX2_value_1
theorem dksX2_value_0 : cX2_value.data.toList.drop 0 = dktX2_value_0 := by decide +kernel
theorem dksX2_value_1 : cX2_value.data.toList.drop 1 = dktX2_value_1 := dk_seg dksX2_value_0 1 rfl rfl
theorem dksX2_value_2 : cX2_value.data.toList.drop 36 = dktX2_value_2 := dk_seg dksX2_value_1 35 rfl rfl
theorem dksX2_value_3 : cX2_value.data.toList.drop 58 = dktX2_value_3 := dk_seg dksX2_value_2 22 rfl rfl
theorem dX2_value_0 : decode cX2_value 0 = .ok (.iload_n 1, 1) := dk_27 (dk_at dksX2_value_0 0 rfl rfl)
theorem dX2_value_1 : decode cX2_value 1 = .ok (.tableswitch 70 0 4 #[35, 42, 49, 56, 63], 35) := by decide +kernel
theorem dX2_value_36 : decode cX2_value 36 = .ok (.aload_n 0, 1) := dk_42 (dk_at dksX2_value_2 0 rfl rfl)
theorem dX2_value_37 : decode cX2_value 37 = .ok (.invokevirtual 66, 3) := dk_182 0 66 (dk_at dksX2_value_2 1 rfl rfl)
theorem dX2_value_40 : decode cX2_value 40 = .ok (.goto 33, 3) := dk_167 0 33 (dk_at dksX2_value_2 4 rfl rfl)
theorem dX2_value_43 : decode cX2_value 43 = .ok (.aload_n 0, 1) := dk_42 (dk_at dksX2_value_2 7 rfl rfl)
theorem dX2_value_44 : decode cX2_value 44 = .ok (.getfield 9, 3) := dk_180 0 9 (dk_at dksX2_value_2 8 rfl rfl)
theorem dX2_value_47 : decode cX2_value 47 = .ok (.goto 26, 3) := dk_167 0 26 (dk_at dksX2_value_2 11 rfl rfl)
theorem dX2_value_50 : decode cX2_value 50 = .ok (.aload_n 0, 1) := dk_42 (dk_at dksX2_value_2 14 rfl rfl)
theorem dX2_value_51 : decode cX2_value 51 = .ok (.getfield 15, 3) := dk_180 0 15 (dk_at dksX2_value_2 15 rfl rfl)
theorem dX2_value_54 : decode cX2_value 54 = .ok (.goto 19, 3) := dk_167 0 19 (dk_at dksX2_value_2 18 rfl rfl)
theorem dX2_value_57 : decode cX2_value 57 = .ok (.aload_n 0, 1) := dk_42 (dk_at dksX2_value_2 21 rfl rfl)
theorem dX2_value_58 : decode cX2_value 58 = .ok (.getfield 31, 3) := dk_180 0 31 (dk_at dksX2_value_3 0 rfl rfl)
theorem dX2_value_61 : decode cX2_value 61 = .ok (.goto 12, 3) := dk_167 0 12 (dk_at dksX2_value_3 3 rfl rfl)
theorem dX2_value_64 : decode cX2_value 64 = .ok (.aload_n 0, 1) := dk_42 (dk_at dksX2_value_3 6 rfl rfl)
theorem dX2_value_65 : decode cX2_value 65 = .ok (.invokevirtual 93, 3) := dk_182 0 93 (dk_at dksX2_value_3 7 rfl rfl)
theorem dX2_value_68 : decode cX2_value 68 = .ok (.goto 5, 3) := dk_167 0 5 (dk_at dksX2_value_3 10 rfl rfl)
theorem dX2_value_71 : decode cX2_value 71 = .ok (.bipush (-12), 2) := dk_16 244 (dk_at dksX2_value_3 13 rfl rfl)
theorem dX2_value_73 : decode cX2_value 73 = .ok (.ireturn, 1) := dk_172 (dk_at dksX2_value_3 15 rfl rfl)
abbrev cX2_steps : ByteArray := prog_3_method_5_code
def yX2_steps : MethodName := ⟨RX2, "steps", "()I"⟩
def dkwX2_steps_0 : List UInt8 := [4, 6, 42, 180, 0, 27, 104, 8, 112, 96, 172]
abbrev dktX2_steps_0 : List UInt8 := dkwX2_steps_0 ++ []
theorem dksX2_steps_0 : cX2_steps.data.toList.drop 0 = dktX2_steps_0 := by decide +kernel
theorem dX2_steps_0 : decode cX2_steps 0 = .ok (.iconst 1, 1) := dk_4 (dk_at dksX2_steps_0 0 rfl rfl)
theorem dX2_steps_1 : decode cX2_steps 1 = .ok (.iconst 3, 1) := dk_6 (dk_at dksX2_steps_0 1 rfl rfl)
theorem dX2_steps_2 : decode cX2_steps 2 = .ok (.aload_n 0, 1) := dk_42 (dk_at dksX2_steps_0 2 rfl rfl)
theorem dX2_steps_3 : decode cX2_steps 3 = .ok (.getfield 27, 3) := dk_180 0 27 (dk_at dksX2_steps_0 3 rfl rfl)
theorem dX2_steps_6 : decode cX2_steps 6 = .ok (.imul, 1) := dk_104 (dk_at dksX2_steps_0 6 rfl rfl)
theorem dX2_steps_7 : decode cX2_steps 7 = .ok (.iconst 5, 1) := dk_8 (dk_at dksX2_steps_0 7 rfl rfl)
theorem dX2_steps_8 : decode cX2_steps 8 = .ok (.irem, 1) := dk_112 (dk_at dksX2_steps_0 8 rfl rfl)
theorem dX2_steps_9 : decode cX2_steps 9 = .ok (.iadd, 1) := dk_96 (dk_at dksX2_steps_0 9 rfl rfl)
theorem dX2_steps_10 : decode cX2_steps 10 = .ok (.ireturn, 1) := dk_172 (dk_at dksX2_steps_0 10 rfl rfl)
abbrev cX2_set : ByteArray := prog_3_method_12_code
def yX2_set : MethodName := ⟨RX2, "set", "()I"⟩
def dkwX2_set_1 : List UInt8 := [180, 0, 23, 28, 4, 96, 182, 0, 89, 61, 167, 255, 235, 27, 172]
abbrev dktX2_set_1 : List UInt8 := dkwX2_set_1 ++ []
def dkwX2_set_0 : List UInt8 := [3, 60, 42, 180, 0, 23, 3, 182, 0, 89, 61, 28, 155, 0, 23, 27, 4, 28, 120, 128, 60, 42]
abbrev dktX2_set_0 : List UInt8 := dkwX2_set_0 ++ dktX2_set_1
theorem dksX2_set_0 : cX2_set.data.toList.drop 0 = dktX2_set_0 := by decide +kernel
theorem dksX2_set_1 : cX2_set.data.toList.drop 22 = dktX2_set_1 := dk_seg dksX2_set_0 22 rfl rfl
theorem dX2_set_0 : decode cX2_set 0 = .ok (.iconst 0, 1) := dk_3 (dk_at dksX2_set_0 0 rfl rfl)
theorem dX2_set_1 : decode cX2_set 1 = .ok (.istore_n 1, 1) := dk_60 (dk_at dksX2_set_0 1 rfl rfl)
theorem dX2_set_2 : decode cX2_set 2 = .ok (.aload_n 0, 1) := dk_42 (dk_at dksX2_set_0 2 rfl rfl)
theorem dX2_set_3 : decode cX2_set 3 = .ok (.getfield 23, 3) := dk_180 0 23 (dk_at dksX2_set_0 3 rfl rfl)
theorem dX2_set_6 : decode cX2_set 6 = .ok (.iconst 0, 1) := dk_3 (dk_at dksX2_set_0 6 rfl rfl)
theorem dX2_set_7 : decode cX2_set 7 = .ok (.invokevirtual 89, 3) := dk_182 0 89 (dk_at dksX2_set_0 7 rfl rfl)
theorem dX2_set_10 : decode cX2_set 10 = .ok (.istore_n 2, 1) := dk_61 (dk_at dksX2_set_0 10 rfl rfl)
theorem dX2_set_11 : decode cX2_set 11 = .ok (.iload_n 2, 1) := dk_28 (dk_at dksX2_set_0 11 rfl rfl)
theorem dX2_set_12 : decode cX2_set 12 = .ok (.ifCond .lt 23, 3) := dk_155 0 23 (dk_at dksX2_set_0 12 rfl rfl)
theorem dX2_set_15 : decode cX2_set 15 = .ok (.iload_n 1, 1) := dk_27 (dk_at dksX2_set_0 15 rfl rfl)
theorem dX2_set_16 : decode cX2_set 16 = .ok (.iconst 1, 1) := dk_4 (dk_at dksX2_set_0 16 rfl rfl)
theorem dX2_set_17 : decode cX2_set 17 = .ok (.iload_n 2, 1) := dk_28 (dk_at dksX2_set_0 17 rfl rfl)
theorem dX2_set_18 : decode cX2_set 18 = .ok (.ishl, 1) := dk_120 (dk_at dksX2_set_0 18 rfl rfl)
theorem dX2_set_19 : decode cX2_set 19 = .ok (.ior, 1) := dk_128 (dk_at dksX2_set_0 19 rfl rfl)
theorem dX2_set_20 : decode cX2_set 20 = .ok (.istore_n 1, 1) := dk_60 (dk_at dksX2_set_0 20 rfl rfl)
theorem dX2_set_21 : decode cX2_set 21 = .ok (.aload_n 0, 1) := dk_42 (dk_at dksX2_set_0 21 rfl rfl)
theorem dX2_set_22 : decode cX2_set 22 = .ok (.getfield 23, 3) := dk_180 0 23 (dk_at dksX2_set_1 0 rfl rfl)
theorem dX2_set_25 : decode cX2_set 25 = .ok (.iload_n 2, 1) := dk_28 (dk_at dksX2_set_1 3 rfl rfl)
theorem dX2_set_26 : decode cX2_set 26 = .ok (.iconst 1, 1) := dk_4 (dk_at dksX2_set_1 4 rfl rfl)
theorem dX2_set_27 : decode cX2_set 27 = .ok (.iadd, 1) := dk_96 (dk_at dksX2_set_1 5 rfl rfl)
theorem dX2_set_28 : decode cX2_set 28 = .ok (.invokevirtual 89, 3) := dk_182 0 89 (dk_at dksX2_set_1 6 rfl rfl)
theorem dX2_set_31 : decode cX2_set 31 = .ok (.istore_n 2, 1) := dk_61 (dk_at dksX2_set_1 9 rfl rfl)
theorem dX2_set_32 : decode cX2_set 32 = .ok (.goto (-21), 3) := dk_167 255 235 (dk_at dksX2_set_1 10 rfl rfl)
theorem dX2_set_35 : decode cX2_set 35 = .ok (.iload_n 1, 1) := dk_27 (dk_at dksX2_set_1 13 rfl rfl)
theorem dX2_set_36 : decode cX2_set 36 = .ok (.ireturn, 1) := dk_172 (dk_at dksX2_set_1 14 rfl rfl)
abbrev cX2_isGuarded : ByteArray := prog_3_method_6_code
def yX2_isGuarded : MethodName := ⟨RX2, "isGuarded", "()Z"⟩
def dkwX2_isGuarded_0 : List UInt8 := [42, 180, 0, 15, 16, 7, 161, 0, 7, 4, 167, 0, 4, 3, 172]
abbrev dktX2_isGuarded_0 : List UInt8 := dkwX2_isGuarded_0 ++ []
theorem dksX2_isGuarded_0 : cX2_isGuarded.data.toList.drop 0 = dktX2_isGuarded_0 := by decide +kernel
theorem dX2_isGuarded_0 : decode cX2_isGuarded 0 = .ok (.aload_n 0, 1) := dk_42 (dk_at dksX2_isGuarded_0 0 rfl rfl)
theorem dX2_isGuarded_1 : decode cX2_isGuarded 1 = .ok (.getfield 15, 3) := dk_180 0 15 (dk_at dksX2_isGuarded_0 1 rfl rfl)
theorem dX2_isGuarded_4 : decode cX2_isGuarded 4 = .ok (.bipush 7, 2) := dk_16 7 (dk_at dksX2_isGuarded_0 4 rfl rfl)
theorem dX2_isGuarded_6 : decode cX2_isGuarded 6 = .ok (.if_icmp .lt 7, 3) := dk_161 0 7 (dk_at dksX2_isGuarded_0 6 rfl rfl)
theorem dX2_isGuarded_9 : decode cX2_isGuarded 9 = .ok (.iconst 1, 1) := dk_4 (dk_at dksX2_isGuarded_0 9 rfl rfl)
theorem dX2_isGuarded_10 : decode cX2_isGuarded 10 = .ok (.goto 4, 3) := dk_167 0 4 (dk_at dksX2_isGuarded_0 10 rfl rfl)
theorem dX2_isGuarded_13 : decode cX2_isGuarded 13 = .ok (.iconst 0, 1) := dk_3 (dk_at dksX2_isGuarded_0 13 rfl rfl)
theorem dX2_isGuarded_14 : decode cX2_isGuarded 14 = .ok (.ireturn, 1) := dk_172 (dk_at dksX2_isGuarded_0 14 rfl rfl)
abbrev cX2_listensTo : ByteArray := prog_3_method_7_code
def yX2_listensTo : MethodName := ⟨RX2, "listensTo", "(I)Z"⟩
def dkwX2_listensTo_1 : List UInt8 := [28, 96, 42, 182, 0, 66, 16, 6, 96, 161, 0, 7, 4, 167, 0, 4, 3, 172]
abbrev dktX2_listensTo_1 : List UInt8 := dkwX2_listensTo_1 ++ []
def dkwX2_listensTo_0 : List UInt8 := [42, 180, 0, 15, 3, 5, 184, 0, 62, 153, 0, 7, 6, 167, 0, 4, 3, 61, 27, 42, 180, 0, 9, 96]
abbrev dktX2_listensTo_0 : List UInt8 := dkwX2_listensTo_0 ++ dktX2_listensTo_1
theorem dksX2_listensTo_0 : cX2_listensTo.data.toList.drop 0 = dktX2_listensTo_0 := by decide +kernel
theorem dksX2_listensTo_1 : cX2_listensTo.data.toList.drop 24 = dktX2_listensTo_1 := dk_seg dksX2_listensTo_0 24 rfl rfl
theorem dX2_listensTo_0 : decode cX2_listensTo 0 = .ok (.aload_n 0, 1) := dk_42 (dk_at dksX2_listensTo_0 0 rfl rfl)
theorem dX2_listensTo_1 : decode cX2_listensTo 1 = .ok (.getfield 15, 3) := dk_180 0 15 (dk_at dksX2_listensTo_0 1 rfl rfl)
theorem dX2_listensTo_4 : decode cX2_listensTo 4 = .ok (.iconst 0, 1) := dk_3 (dk_at dksX2_listensTo_0 4 rfl rfl)
theorem dX2_listensTo_5 : decode cX2_listensTo 5 = .ok (.iconst 2, 1) := dk_5 (dk_at dksX2_listensTo_0 5 rfl rfl)
theorem dX2_listensTo_6 : decode cX2_listensTo 6 = .ok (.invokestatic 62, 3) := dk_184 0 62 (dk_at dksX2_listensTo_0 6 rfl rfl)
theorem dX2_listensTo_9 : decode cX2_listensTo 9 = .ok (.ifCond .eq 7, 3) := dk_153 0 7 (dk_at dksX2_listensTo_0 9 rfl rfl)
theorem dX2_listensTo_12 : decode cX2_listensTo 12 = .ok (.iconst 3, 1) := dk_6 (dk_at dksX2_listensTo_0 12 rfl rfl)
theorem dX2_listensTo_13 : decode cX2_listensTo 13 = .ok (.goto 4, 3) := dk_167 0 4 (dk_at dksX2_listensTo_0 13 rfl rfl)
theorem dX2_listensTo_16 : decode cX2_listensTo 16 = .ok (.iconst 0, 1) := dk_3 (dk_at dksX2_listensTo_0 16 rfl rfl)
theorem dX2_listensTo_17 : decode cX2_listensTo 17 = .ok (.istore_n 2, 1) := dk_61 (dk_at dksX2_listensTo_0 17 rfl rfl)
theorem dX2_listensTo_18 : decode cX2_listensTo 18 = .ok (.iload_n 1, 1) := dk_27 (dk_at dksX2_listensTo_0 18 rfl rfl)
theorem dX2_listensTo_19 : decode cX2_listensTo 19 = .ok (.aload_n 0, 1) := dk_42 (dk_at dksX2_listensTo_0 19 rfl rfl)
theorem dX2_listensTo_20 : decode cX2_listensTo 20 = .ok (.getfield 9, 3) := dk_180 0 9 (dk_at dksX2_listensTo_0 20 rfl rfl)
theorem dX2_listensTo_23 : decode cX2_listensTo 23 = .ok (.iadd, 1) := dk_96 (dk_at dksX2_listensTo_0 23 rfl rfl)
theorem dX2_listensTo_24 : decode cX2_listensTo 24 = .ok (.iload_n 2, 1) := dk_28 (dk_at dksX2_listensTo_1 0 rfl rfl)
theorem dX2_listensTo_25 : decode cX2_listensTo 25 = .ok (.iadd, 1) := dk_96 (dk_at dksX2_listensTo_1 1 rfl rfl)
theorem dX2_listensTo_26 : decode cX2_listensTo 26 = .ok (.aload_n 0, 1) := dk_42 (dk_at dksX2_listensTo_1 2 rfl rfl)
theorem dX2_listensTo_27 : decode cX2_listensTo 27 = .ok (.invokevirtual 66, 3) := dk_182 0 66 (dk_at dksX2_listensTo_1 3 rfl rfl)
theorem dX2_listensTo_30 : decode cX2_listensTo 30 = .ok (.bipush 6, 2) := dk_16 6 (dk_at dksX2_listensTo_1 6 rfl rfl)
theorem dX2_listensTo_32 : decode cX2_listensTo 32 = .ok (.iadd, 1) := dk_96 (dk_at dksX2_listensTo_1 8 rfl rfl)
theorem dX2_listensTo_33 : decode cX2_listensTo 33 = .ok (.if_icmp .lt 7, 3) := dk_161 0 7 (dk_at dksX2_listensTo_1 9 rfl rfl)
theorem dX2_listensTo_36 : decode cX2_listensTo 36 = .ok (.iconst 1, 1) := dk_4 (dk_at dksX2_listensTo_1 12 rfl rfl)
theorem dX2_listensTo_37 : decode cX2_listensTo 37 = .ok (.goto 4, 3) := dk_167 0 4 (dk_at dksX2_listensTo_1 13 rfl rfl)
theorem dX2_listensTo_40 : decode cX2_listensTo 40 = .ok (.iconst 0, 1) := dk_3 (dk_at dksX2_listensTo_1 16 rfl rfl)
theorem dX2_listensTo_41 : decode cX2_listensTo 41 = .ok (.ireturn, 1) := dk_172 (dk_at dksX2_listensTo_1 17 rfl rfl)
abbrev cX2_wants : ByteArray := prog_3_method_8_code
def yX2_wants : MethodName := ⟨RX2, "wants", "(II)I"⟩
def dkwX2_wants_1 : List UInt8 := [184, 0, 74, 172]
abbrev dktX2_wants_1 : List UInt8 := dkwX2_wants_1 ++ []
def dkwX2_wants_0 : List UInt8 := [3, 6, 28, 6, 108, 100, 42, 180, 0, 23, 27, 182, 0, 70, 153, 0, 7, 3, 167, 0, 4, 4, 96]
abbrev dktX2_wants_0 : List UInt8 := dkwX2_wants_0 ++ dktX2_wants_1
theorem dksX2_wants_0 : cX2_wants.data.toList.drop 0 = dktX2_wants_0 := by decide +kernel
theorem dksX2_wants_1 : cX2_wants.data.toList.drop 23 = dktX2_wants_1 := dk_seg dksX2_wants_0 23 rfl rfl
theorem dX2_wants_0 : decode cX2_wants 0 = .ok (.iconst 0, 1) := dk_3 (dk_at dksX2_wants_0 0 rfl rfl)
theorem dX2_wants_1 : decode cX2_wants 1 = .ok (.iconst 3, 1) := dk_6 (dk_at dksX2_wants_0 1 rfl rfl)
theorem dX2_wants_2 : decode cX2_wants 2 = .ok (.iload_n 2, 1) := dk_28 (dk_at dksX2_wants_0 2 rfl rfl)
theorem dX2_wants_3 : decode cX2_wants 3 = .ok (.iconst 3, 1) := dk_6 (dk_at dksX2_wants_0 3 rfl rfl)
theorem dX2_wants_4 : decode cX2_wants 4 = .ok (.idiv, 1) := dk_108 (dk_at dksX2_wants_0 4 rfl rfl)
theorem dX2_wants_5 : decode cX2_wants 5 = .ok (.isub, 1) := dk_100 (dk_at dksX2_wants_0 5 rfl rfl)
theorem dX2_wants_6 : decode cX2_wants 6 = .ok (.aload_n 0, 1) := dk_42 (dk_at dksX2_wants_0 6 rfl rfl)
theorem dX2_wants_7 : decode cX2_wants 7 = .ok (.getfield 23, 3) := dk_180 0 23 (dk_at dksX2_wants_0 7 rfl rfl)
theorem dX2_wants_10 : decode cX2_wants 10 = .ok (.iload_n 1, 1) := dk_27 (dk_at dksX2_wants_0 10 rfl rfl)
theorem dX2_wants_11 : decode cX2_wants 11 = .ok (.invokevirtual 70, 3) := dk_182 0 70 (dk_at dksX2_wants_0 11 rfl rfl)
theorem dX2_wants_14 : decode cX2_wants 14 = .ok (.ifCond .eq 7, 3) := dk_153 0 7 (dk_at dksX2_wants_0 14 rfl rfl)
theorem dX2_wants_17 : decode cX2_wants 17 = .ok (.iconst 0, 1) := dk_3 (dk_at dksX2_wants_0 17 rfl rfl)
theorem dX2_wants_18 : decode cX2_wants 18 = .ok (.goto 4, 3) := dk_167 0 4 (dk_at dksX2_wants_0 18 rfl rfl)
theorem dX2_wants_21 : decode cX2_wants 21 = .ok (.iconst 1, 1) := dk_4 (dk_at dksX2_wants_0 21 rfl rfl)
theorem dX2_wants_22 : decode cX2_wants 22 = .ok (.iadd, 1) := dk_96 (dk_at dksX2_wants_0 22 rfl rfl)
theorem dX2_wants_23 : decode cX2_wants 23 = .ok (.invokestatic 74, 3) := dk_184 0 74 (dk_at dksX2_wants_1 0 rfl rfl)
theorem dX2_wants_26 : decode cX2_wants 26 = .ok (.ireturn, 1) := dk_172 (dk_at dksX2_wants_1 3 rfl rfl)
abbrev cX2_pleases : ByteArray := prog_3_method_10_code
def yX2_pleases : MethodName := ⟨RX2, "pleases", "(I)V"⟩
def dkwX2_pleases_0 : List UInt8 := [42, 3, 16, 9, 42, 180, 0, 9, 27, 96, 184, 0, 86, 184, 0, 74, 181, 0, 9, 177]
abbrev dktX2_pleases_0 : List UInt8 := dkwX2_pleases_0 ++ []
theorem dksX2_pleases_0 : cX2_pleases.data.toList.drop 0 = dktX2_pleases_0 := by decide +kernel
theorem dX2_pleases_0 : decode cX2_pleases 0 = .ok (.aload_n 0, 1) := dk_42 (dk_at dksX2_pleases_0 0 rfl rfl)
theorem dX2_pleases_1 : decode cX2_pleases 1 = .ok (.iconst 0, 1) := dk_3 (dk_at dksX2_pleases_0 1 rfl rfl)
theorem dX2_pleases_2 : decode cX2_pleases 2 = .ok (.bipush 9, 2) := dk_16 9 (dk_at dksX2_pleases_0 2 rfl rfl)
theorem dX2_pleases_4 : decode cX2_pleases 4 = .ok (.aload_n 0, 1) := dk_42 (dk_at dksX2_pleases_0 4 rfl rfl)
theorem dX2_pleases_5 : decode cX2_pleases 5 = .ok (.getfield 9, 3) := dk_180 0 9 (dk_at dksX2_pleases_0 5 rfl rfl)
theorem dX2_pleases_8 : decode cX2_pleases 8 = .ok (.iload_n 1, 1) := dk_27 (dk_at dksX2_pleases_0 8 rfl rfl)
theorem dX2_pleases_9 : decode cX2_pleases 9 = .ok (.iadd, 1) := dk_96 (dk_at dksX2_pleases_0 9 rfl rfl)
theorem dX2_pleases_10 : decode cX2_pleases 10 = .ok (.invokestatic 86, 3) := dk_184 0 86 (dk_at dksX2_pleases_0 10 rfl rfl)
theorem dX2_pleases_13 : decode cX2_pleases 13 = .ok (.invokestatic 74, 3) := dk_184 0 74 (dk_at dksX2_pleases_0 13 rfl rfl)
theorem dX2_pleases_16 : decode cX2_pleases 16 = .ok (.putfield 9, 3) := dk_181 0 9 (dk_at dksX2_pleases_0 16 rfl rfl)
theorem dX2_pleases_19 : decode cX2_pleases 19 = .ok (.return_, 1) := dk_177 (dk_at dksX2_pleases_0 19 rfl rfl)
abbrev cX2_buys : ByteArray := prog_3_method_9_code
def yX2_buys : MethodName := ⟨RX2, "buys", "(II)V"⟩
def dkwX2_buys_1 : List UInt8 := [182, 0, 83, 177]
abbrev dktX2_buys_1 : List UInt8 := dkwX2_buys_1 ++ []
def dkwX2_buys_0 : List UInt8 := [28, 158, 0, 26, 42, 89, 180, 0, 31, 28, 96, 181, 0, 31, 42, 180, 0, 23, 27, 182, 0, 80, 42, 4]
abbrev dktX2_buys_0 : List UInt8 := dkwX2_buys_0 ++ dktX2_buys_1
theorem dksX2_buys_0 : cX2_buys.data.toList.drop 0 = dktX2_buys_0 := by decide +kernel
theorem dksX2_buys_1 : cX2_buys.data.toList.drop 24 = dktX2_buys_1 := dk_seg dksX2_buys_0 24 rfl rfl
theorem dX2_buys_0 : decode cX2_buys 0 = .ok (.iload_n 2, 1) := dk_28 (dk_at dksX2_buys_0 0 rfl rfl)
theorem dX2_buys_1 : decode cX2_buys 1 = .ok (.ifCond .le 26, 3) := dk_158 0 26 (dk_at dksX2_buys_0 1 rfl rfl)
theorem dX2_buys_4 : decode cX2_buys 4 = .ok (.aload_n 0, 1) := dk_42 (dk_at dksX2_buys_0 4 rfl rfl)
theorem dX2_buys_5 : decode cX2_buys 5 = .ok (.dup, 1) := dk_89 (dk_at dksX2_buys_0 5 rfl rfl)
theorem dX2_buys_6 : decode cX2_buys 6 = .ok (.getfield 31, 3) := dk_180 0 31 (dk_at dksX2_buys_0 6 rfl rfl)
theorem dX2_buys_9 : decode cX2_buys 9 = .ok (.iload_n 2, 1) := dk_28 (dk_at dksX2_buys_0 9 rfl rfl)
theorem dX2_buys_10 : decode cX2_buys 10 = .ok (.iadd, 1) := dk_96 (dk_at dksX2_buys_0 10 rfl rfl)
theorem dX2_buys_11 : decode cX2_buys 11 = .ok (.putfield 31, 3) := dk_181 0 31 (dk_at dksX2_buys_0 11 rfl rfl)
theorem dX2_buys_14 : decode cX2_buys 14 = .ok (.aload_n 0, 1) := dk_42 (dk_at dksX2_buys_0 14 rfl rfl)
theorem dX2_buys_15 : decode cX2_buys 15 = .ok (.getfield 23, 3) := dk_180 0 23 (dk_at dksX2_buys_0 15 rfl rfl)
theorem dX2_buys_18 : decode cX2_buys 18 = .ok (.iload_n 1, 1) := dk_27 (dk_at dksX2_buys_0 18 rfl rfl)
theorem dX2_buys_19 : decode cX2_buys 19 = .ok (.invokevirtual 80, 3) := dk_182 0 80 (dk_at dksX2_buys_0 19 rfl rfl)
theorem dX2_buys_22 : decode cX2_buys 22 = .ok (.aload_n 0, 1) := dk_42 (dk_at dksX2_buys_0 22 rfl rfl)
theorem dX2_buys_23 : decode cX2_buys 23 = .ok (.iconst 1, 1) := dk_4 (dk_at dksX2_buys_0 23 rfl rfl)
theorem dX2_buys_24 : decode cX2_buys 24 = .ok (.invokevirtual 83, 3) := dk_182 0 83 (dk_at dksX2_buys_1 0 rfl rfl)
theorem dX2_buys_27 : decode cX2_buys 27 = .ok (.return_, 1) := dk_177 (dk_at dksX2_buys_1 3 rfl rfl)
abbrev cX2_dayEnds : ByteArray := prog_3_method_11_code
def yX2_dayEnds : MethodName := ⟨RX2, "dayEnds", "()V"⟩
def dkwX2_dayEnds_2 : List UInt8 := [180, 0, 9, 42, 180, 0, 9, 8, 162, 0, 7, 4, 167, 0, 4, 3, 96, 181, 0, 9, 177]
abbrev dktX2_dayEnds_2 : List UInt8 := dkwX2_dayEnds_2 ++ []
def dkwX2_dayEnds_1 : List UInt8 := [167, 0, 16, 42, 180, 0, 15, 8, 164, 0, 7, 2, 167, 0, 4, 4, 96, 181, 0, 15, 42, 89]
abbrev dktX2_dayEnds_1 : List UInt8 := dkwX2_dayEnds_1 ++ dktX2_dayEnds_2
def dkwX2_dayEnds_0 : List UInt8 := [42, 89, 180, 0, 15, 42, 180, 0, 15, 16, 241, 159, 0, 11, 42, 180, 0, 15, 8, 160, 0, 7, 3]
abbrev dktX2_dayEnds_0 : List UInt8 := dkwX2_dayEnds_0 ++ dktX2_dayEnds_1
theorem dksX2_dayEnds_0 : cX2_dayEnds.data.toList.drop 0 = dktX2_dayEnds_0 := by decide +kernel
theorem dksX2_dayEnds_1 : cX2_dayEnds.data.toList.drop 23 = dktX2_dayEnds_1 := dk_seg dksX2_dayEnds_0 23 rfl rfl
theorem dksX2_dayEnds_2 : cX2_dayEnds.data.toList.drop 45 = dktX2_dayEnds_2 := dk_seg dksX2_dayEnds_1 22 rfl rfl
theorem dX2_dayEnds_0 : decode cX2_dayEnds 0 = .ok (.aload_n 0, 1) := dk_42 (dk_at dksX2_dayEnds_0 0 rfl rfl)
theorem dX2_dayEnds_1 : decode cX2_dayEnds 1 = .ok (.dup, 1) := dk_89 (dk_at dksX2_dayEnds_0 1 rfl rfl)
theorem dX2_dayEnds_2 : decode cX2_dayEnds 2 = .ok (.getfield 15, 3) := dk_180 0 15 (dk_at dksX2_dayEnds_0 2 rfl rfl)
theorem dX2_dayEnds_5 : decode cX2_dayEnds 5 = .ok (.aload_n 0, 1) := dk_42 (dk_at dksX2_dayEnds_0 5 rfl rfl)
theorem dX2_dayEnds_6 : decode cX2_dayEnds 6 = .ok (.getfield 15, 3) := dk_180 0 15 (dk_at dksX2_dayEnds_0 6 rfl rfl)
theorem dX2_dayEnds_9 : decode cX2_dayEnds 9 = .ok (.bipush (-15), 2) := dk_16 241 (dk_at dksX2_dayEnds_0 9 rfl rfl)
theorem dX2_dayEnds_11 : decode cX2_dayEnds 11 = .ok (.if_icmp .eq 11, 3) := dk_159 0 11 (dk_at dksX2_dayEnds_0 11 rfl rfl)
theorem dX2_dayEnds_14 : decode cX2_dayEnds 14 = .ok (.aload_n 0, 1) := dk_42 (dk_at dksX2_dayEnds_0 14 rfl rfl)
theorem dX2_dayEnds_15 : decode cX2_dayEnds 15 = .ok (.getfield 15, 3) := dk_180 0 15 (dk_at dksX2_dayEnds_0 15 rfl rfl)
theorem dX2_dayEnds_18 : decode cX2_dayEnds 18 = .ok (.iconst 5, 1) := dk_8 (dk_at dksX2_dayEnds_0 18 rfl rfl)
theorem dX2_dayEnds_19 : decode cX2_dayEnds 19 = .ok (.if_icmp .ne 7, 3) := dk_160 0 7 (dk_at dksX2_dayEnds_0 19 rfl rfl)
theorem dX2_dayEnds_22 : decode cX2_dayEnds 22 = .ok (.iconst 0, 1) := dk_3 (dk_at dksX2_dayEnds_0 22 rfl rfl)
theorem dX2_dayEnds_23 : decode cX2_dayEnds 23 = .ok (.goto 16, 3) := dk_167 0 16 (dk_at dksX2_dayEnds_1 0 rfl rfl)
theorem dX2_dayEnds_26 : decode cX2_dayEnds 26 = .ok (.aload_n 0, 1) := dk_42 (dk_at dksX2_dayEnds_1 3 rfl rfl)
theorem dX2_dayEnds_27 : decode cX2_dayEnds 27 = .ok (.getfield 15, 3) := dk_180 0 15 (dk_at dksX2_dayEnds_1 4 rfl rfl)
theorem dX2_dayEnds_30 : decode cX2_dayEnds 30 = .ok (.iconst 5, 1) := dk_8 (dk_at dksX2_dayEnds_1 7 rfl rfl)
theorem dX2_dayEnds_31 : decode cX2_dayEnds 31 = .ok (.if_icmp .le 7, 3) := dk_164 0 7 (dk_at dksX2_dayEnds_1 8 rfl rfl)
theorem dX2_dayEnds_34 : decode cX2_dayEnds 34 = .ok (.iconst (-1), 1) := dk_2 (dk_at dksX2_dayEnds_1 11 rfl rfl)
theorem dX2_dayEnds_35 : decode cX2_dayEnds 35 = .ok (.goto 4, 3) := dk_167 0 4 (dk_at dksX2_dayEnds_1 12 rfl rfl)
theorem dX2_dayEnds_38 : decode cX2_dayEnds 38 = .ok (.iconst 1, 1) := dk_4 (dk_at dksX2_dayEnds_1 15 rfl rfl)
theorem dX2_dayEnds_39 : decode cX2_dayEnds 39 = .ok (.iadd, 1) := dk_96 (dk_at dksX2_dayEnds_1 16 rfl rfl)
theorem dX2_dayEnds_40 : decode cX2_dayEnds 40 = .ok (.putfield 15, 3) := dk_181 0 15 (dk_at dksX2_dayEnds_1 17 rfl rfl)
theorem dX2_dayEnds_43 : decode cX2_dayEnds 43 = .ok (.aload_n 0, 1) := dk_42 (dk_at dksX2_dayEnds_1 20 rfl rfl)
theorem dX2_dayEnds_44 : decode cX2_dayEnds 44 = .ok (.dup, 1) := dk_89 (dk_at dksX2_dayEnds_1 21 rfl rfl)
theorem dX2_dayEnds_45 : decode cX2_dayEnds 45 = .ok (.getfield 9, 3) := dk_180 0 9 (dk_at dksX2_dayEnds_2 0 rfl rfl)
theorem dX2_dayEnds_48 : decode cX2_dayEnds 48 = .ok (.aload_n 0, 1) := dk_42 (dk_at dksX2_dayEnds_2 3 rfl rfl)
theorem dX2_dayEnds_49 : decode cX2_dayEnds 49 = .ok (.getfield 9, 3) := dk_180 0 9 (dk_at dksX2_dayEnds_2 4 rfl rfl)
theorem dX2_dayEnds_52 : decode cX2_dayEnds 52 = .ok (.iconst 5, 1) := dk_8 (dk_at dksX2_dayEnds_2 7 rfl rfl)
theorem dX2_dayEnds_53 : decode cX2_dayEnds 53 = .ok (.if_icmp .ge 7, 3) := dk_162 0 7 (dk_at dksX2_dayEnds_2 8 rfl rfl)
theorem dX2_dayEnds_56 : decode cX2_dayEnds 56 = .ok (.iconst 1, 1) := dk_4 (dk_at dksX2_dayEnds_2 11 rfl rfl)
theorem dX2_dayEnds_57 : decode cX2_dayEnds 57 = .ok (.goto 4, 3) := dk_167 0 4 (dk_at dksX2_dayEnds_2 12 rfl rfl)
theorem dX2_dayEnds_60 : decode cX2_dayEnds 60 = .ok (.iconst 0, 1) := dk_3 (dk_at dksX2_dayEnds_2 15 rfl rfl)
theorem dX2_dayEnds_61 : decode cX2_dayEnds 61 = .ok (.iadd, 1) := dk_96 (dk_at dksX2_dayEnds_2 16 rfl rfl)
theorem dX2_dayEnds_62 : decode cX2_dayEnds 62 = .ok (.putfield 9, 3) := dk_181 0 9 (dk_at dksX2_dayEnds_2 17 rfl rfl)
theorem dX2_dayEnds_65 : decode cX2_dayEnds 65 = .ok (.return_, 1) := dk_177 (dk_at dksX2_dayEnds_2 20 rfl rfl)
abbrev cX2_text : ByteArray := prog_3_method_4_code
def yX2_text : MethodName := ⟨RX2, "text", "()Ljava/lang/String;"⟩
def dkwX2_text_2 : List UInt8 := [182, 0, 58, 176]
abbrev dktX2_text_2 : List UInt8 := dkwX2_text_2 ++ []
def dkwX2_text_1 : List UInt8 := [167, 0, 19, 42, 180, 0, 15, 16, 241, 160, 0, 8, 18, 51, 167, 0, 5, 18, 53, 182, 0, 55]
abbrev dktX2_text_1 : List UInt8 := dkwX2_text_1 ++ dktX2_text_2
def dkwX2_text_0 : List UInt8 := [187, 0, 38, 89, 183, 0, 40, 42, 180, 0, 9, 182, 0, 41, 42, 182, 0, 45, 153, 0, 8, 18, 49]
abbrev dktX2_text_0 : List UInt8 := dkwX2_text_0 ++ dktX2_text_1
theorem dksX2_text_0 : cX2_text.data.toList.drop 0 = dktX2_text_0 := by decide +kernel
theorem dksX2_text_1 : cX2_text.data.toList.drop 23 = dktX2_text_1 := dk_seg dksX2_text_0 23 rfl rfl
theorem dksX2_text_2 : cX2_text.data.toList.drop 45 = dktX2_text_2 := dk_seg dksX2_text_1 22 rfl rfl
theorem dX2_text_0 : decode cX2_text 0 = .ok (.new 38, 3) := dk_187 0 38 (dk_at dksX2_text_0 0 rfl rfl)
theorem dX2_text_3 : decode cX2_text 3 = .ok (.dup, 1) := dk_89 (dk_at dksX2_text_0 3 rfl rfl)
theorem dX2_text_4 : decode cX2_text 4 = .ok (.invokespecial 40, 3) := dk_183 0 40 (dk_at dksX2_text_0 4 rfl rfl)
theorem dX2_text_7 : decode cX2_text 7 = .ok (.aload_n 0, 1) := dk_42 (dk_at dksX2_text_0 7 rfl rfl)
theorem dX2_text_8 : decode cX2_text 8 = .ok (.getfield 9, 3) := dk_180 0 9 (dk_at dksX2_text_0 8 rfl rfl)
theorem dX2_text_11 : decode cX2_text 11 = .ok (.invokevirtual 41, 3) := dk_182 0 41 (dk_at dksX2_text_0 11 rfl rfl)
theorem dX2_text_14 : decode cX2_text 14 = .ok (.aload_n 0, 1) := dk_42 (dk_at dksX2_text_0 14 rfl rfl)
theorem dX2_text_15 : decode cX2_text 15 = .ok (.invokevirtual 45, 3) := dk_182 0 45 (dk_at dksX2_text_0 15 rfl rfl)
theorem dX2_text_18 : decode cX2_text 18 = .ok (.ifCond .eq 8, 3) := dk_153 0 8 (dk_at dksX2_text_0 18 rfl rfl)
theorem dX2_text_21 : decode cX2_text 21 = .ok (.ldc 49, 2) := dk_18 49 (dk_at dksX2_text_0 21 rfl rfl)
theorem dX2_text_23 : decode cX2_text 23 = .ok (.goto 19, 3) := dk_167 0 19 (dk_at dksX2_text_1 0 rfl rfl)
theorem dX2_text_26 : decode cX2_text 26 = .ok (.aload_n 0, 1) := dk_42 (dk_at dksX2_text_1 3 rfl rfl)
theorem dX2_text_27 : decode cX2_text 27 = .ok (.getfield 15, 3) := dk_180 0 15 (dk_at dksX2_text_1 4 rfl rfl)
theorem dX2_text_30 : decode cX2_text 30 = .ok (.bipush (-15), 2) := dk_16 241 (dk_at dksX2_text_1 7 rfl rfl)
theorem dX2_text_32 : decode cX2_text 32 = .ok (.if_icmp .ne 8, 3) := dk_160 0 8 (dk_at dksX2_text_1 9 rfl rfl)
theorem dX2_text_35 : decode cX2_text 35 = .ok (.ldc 51, 2) := dk_18 51 (dk_at dksX2_text_1 12 rfl rfl)
theorem dX2_text_37 : decode cX2_text 37 = .ok (.goto 5, 3) := dk_167 0 5 (dk_at dksX2_text_1 14 rfl rfl)
theorem dX2_text_40 : decode cX2_text 40 = .ok (.ldc 53, 2) := dk_18 53 (dk_at dksX2_text_1 17 rfl rfl)
theorem dX2_text_42 : decode cX2_text 42 = .ok (.invokevirtual 55, 3) := dk_182 0 55 (dk_at dksX2_text_1 19 rfl rfl)
theorem dX2_text_45 : decode cX2_text 45 = .ok (.invokevirtual 58, 3) := dk_182 0 58 (dk_at dksX2_text_2 0 rfl rfl)
theorem dX2_text_48 : decode cX2_text 48 = .ok (.areturn, 1) := dk_176 (dk_at dksX2_text_2 3 rfl rfl)
theorem q71 : (Jvm.Cond.initialized "BrushSellers$House") ∈ lw_all := lw_g (lw_at lw_m1 8 rfl) rfl
theorem q177 : (Jvm.Cond.instantiable "BrushSellers$House" (5 : Nat)) ∈ lw_all := lw_g (lw_at lw_m1 114 rfl) rfl
theorem q179 : (Jvm.Cond.instanceMethod ({ cls := "BrushSellers$House", name := "<init>", desc := "(I)V" } : Jvm.MethodName)) ∈ lw_all := lw_g (lw_at lw_m1 116 rfl) rfl
theorem q180 : (Jvm.Cond.code ({ cls := "BrushSellers$House", name := "<init>", desc := "(I)V" } : Jvm.MethodName) prog_3_method_1_code (2 : Nat) (Option.none : Option Jvm.ClassFile.FieldType)) ∈ lw_all := lw_g (lw_at lw_m1 117 rfl) rfl
theorem q181 : (Jvm.Cond.methodLink "BrushSellers$House" (3 : Nat) ({ cls := "java/lang/Object", name := "<init>", desc := "()V" } : Jvm.MethodName)) ∈ lw_all := lw_g (lw_at lw_m1 118 rfl) rfl
theorem q182 : (Jvm.Cond.classLink "BrushSellers$House" (18 : Nat) "java/util/BitSet") ∈ lw_all := lw_g (lw_at lw_m1 119 rfl) rfl
theorem q184 : (Jvm.Cond.methodLink "BrushSellers$House" (20 : Nat) ({ cls := "java/util/BitSet", name := "<init>", desc := "(I)V" } : Jvm.MethodName)) ∈ lw_all := lw_g (lw_at lw_m1 121 rfl) rfl
theorem q207 : (Jvm.Cond.fieldLink "BrushSellers$House" (27 : Nat) "BrushSellers$House" "number" "I") ∈ lw_all := lw_g (lw_at lw_m1 144 rfl) rfl
theorem q209 : (Jvm.Cond.fieldLink "BrushSellers$House" (9 : Nat) "BrushSellers$House" "temper" "I") ∈ lw_all := lw_g (lw_at lw_m1 146 rfl) rfl
theorem q211 : (Jvm.Cond.fieldLink "BrushSellers$House" (15 : Nat) "BrushSellers$House" "dog" "I") ∈ lw_all := lw_g (lw_at lw_m1 148 rfl) rfl
theorem q213 : (Jvm.Cond.fieldLink "BrushSellers$House" (31 : Nat) "BrushSellers$House" "bought" "I") ∈ lw_all := lw_g (lw_at lw_m1 150 rfl) rfl
theorem q214 : (Jvm.Cond.fieldLink "BrushSellers$House" (23 : Nat) "BrushSellers$House" "bristles" "Ljava/util/BitSet;") ∈ lw_all := lw_g (lw_at lw_m1 151 rfl) rfl
theorem q215 : (Jvm.Cond.laysFinal "BrushSellers$House" "BrushSellers$House" "number" "I") ∈ lw_all := lw_g (lw_at lw_m1 152 rfl) rfl
theorem q216 : (Jvm.Cond.soleField "BrushSellers$House" "number") ∈ lw_all := lw_g (lw_at lw_m1 153 rfl) rfl
theorem q217 : (Jvm.Cond.lays "BrushSellers$House" "BrushSellers$House" "temper" "I") ∈ lw_all := lw_g (lw_at lw_m1 154 rfl) rfl
theorem q218 : (Jvm.Cond.soleField "BrushSellers$House" "temper") ∈ lw_all := lw_g (lw_at lw_m1 155 rfl) rfl
theorem q219 : (Jvm.Cond.lays "BrushSellers$House" "BrushSellers$House" "dog" "I") ∈ lw_all := lw_g (lw_at lw_m1 156 rfl) rfl
theorem q220 : (Jvm.Cond.soleField "BrushSellers$House" "dog") ∈ lw_all := lw_g (lw_at lw_m1 157 rfl) rfl
theorem q221 : (Jvm.Cond.lays "BrushSellers$House" "BrushSellers$House" "bought" "I") ∈ lw_all := lw_g (lw_at lw_m1 158 rfl) rfl
theorem q222 : (Jvm.Cond.soleField "BrushSellers$House" "bought") ∈ lw_all := lw_g (lw_at lw_m1 159 rfl) rfl
theorem q223 : (Jvm.Cond.laysFinal "BrushSellers$House" "BrushSellers$House" "bristles" "Ljava/util/BitSet;") ∈ lw_all := lw_g (lw_at lw_m1 160 rfl) rfl
theorem q224 : (Jvm.Cond.soleField "BrushSellers$House" "bristles") ∈ lw_all := lw_g (lw_at lw_m1 161 rfl) rfl
theorem q225 : (Jvm.Cond.superclass "BrushSellers$House" "java/lang/Object") ∈ lw_all := lw_g (lw_at lw_m1 162 rfl) rfl
theorem q262 : (Jvm.Cond.selects "BrushSellers$House" ({ cls := "java/lang/Object", name := "getClass", desc := "()Ljava/lang/Class;" } : Jvm.MethodName) ({ cls := "java/lang/Object", name := "getClass", desc := "()Ljava/lang/Class;" } : Jvm.MethodName)) ∈ lw_all := lw_g (lw_at lw_m1 199 rfl) rfl
theorem q455 : (Jvm.Cond.instanceMethod ({ cls := "BrushSellers$House", name := "copy", desc := "()LBrushSellers$House;" } : Jvm.MethodName)) ∈ lw_all := lw_g (lw_at lw_m2 152 rfl) rfl
theorem q456 : (Jvm.Cond.selects "BrushSellers$House" ({ cls := "BrushSellers$House", name := "copy", desc := "()LBrushSellers$House;" } : Jvm.MethodName) ({ cls := "BrushSellers$House", name := "copy", desc := "()LBrushSellers$House;" } : Jvm.MethodName)) ∈ lw_all := lw_g (lw_at lw_m2 153 rfl) rfl
theorem q457 : (Jvm.Cond.code ({ cls := "BrushSellers$House", name := "copy", desc := "()LBrushSellers$House;" } : Jvm.MethodName) prog_3_method_2_code (2 : Nat) (Option.some (Jvm.ClassFile.FieldType.object "BrushSellers$House"))) ∈ lw_all := lw_g (lw_at lw_m2 154 rfl) rfl
theorem q458 : (Jvm.Cond.classLink "BrushSellers$House" (10 : Nat) "BrushSellers$House") ∈ lw_all := lw_g (lw_at lw_m2 155 rfl) rfl
theorem q459 : (Jvm.Cond.methodLink "BrushSellers$House" (30 : Nat) ({ cls := "BrushSellers$House", name := "<init>", desc := "(I)V" } : Jvm.MethodName)) ∈ lw_all := lw_g (lw_at lw_m2 156 rfl) rfl
theorem q460 : (Jvm.Cond.methodLink "BrushSellers$House" (34 : Nat) ({ cls := "java/util/BitSet", name := "or", desc := "(Ljava/util/BitSet;)V" } : Jvm.MethodName)) ∈ lw_all := lw_g (lw_at lw_m2 157 rfl) rfl
theorem q1185 : (Jvm.Cond.castable "BrushSellers$House" "BrushSellers$Placed") ∈ lw_tbl := lw_at lw_m5 162 rfl
theorem q1186 : (Jvm.Cond.selects "BrushSellers$House" ({ cls := "BrushSellers$Placed", name := "house", desc := "()I" } : Jvm.MethodName) ({ cls := "BrushSellers$House", name := "house", desc := "()I" } : Jvm.MethodName)) ∈ lw_all := lw_g (lw_at lw_m5 163 rfl) rfl
theorem q1187 : (Jvm.Cond.unhidden "BrushSellers$House" "house" "()I") ∈ lw_tbl := lw_at lw_m5 164 rfl
theorem q1188 : (Jvm.Cond.instanceMethod ({ cls := "BrushSellers$House", name := "house", desc := "()I" } : Jvm.MethodName)) ∈ lw_all := lw_g (lw_at lw_m5 165 rfl) rfl
theorem q1189 : (Jvm.Cond.publicMethod ({ cls := "BrushSellers$House", name := "house", desc := "()I" } : Jvm.MethodName)) ∈ lw_tbl := lw_at lw_m5 166 rfl
theorem q1190 : (Jvm.Cond.code ({ cls := "BrushSellers$House", name := "house", desc := "()I" } : Jvm.MethodName) prog_3_method_3_code (1 : Nat) (Option.some Jvm.ClassFile.FieldType.int)) ∈ lw_all := lw_g (lw_at lw_m5 167 rfl) rfl
theorem q1223 : (Jvm.Cond.instanceMethod ({ cls := "BrushSellers$House", name := "value", desc := "(I)I" } : Jvm.MethodName)) ∈ lw_all := lw_g (lw_at lw_m5 200 rfl) rfl
theorem q1224 : (Jvm.Cond.selects "BrushSellers$House" ({ cls := "BrushSellers$House", name := "value", desc := "(I)I" } : Jvm.MethodName) ({ cls := "BrushSellers$House", name := "value", desc := "(I)I" } : Jvm.MethodName)) ∈ lw_all := lw_g (lw_at lw_m5 201 rfl) rfl
theorem q1225 : (Jvm.Cond.code ({ cls := "BrushSellers$House", name := "value", desc := "(I)I" } : Jvm.MethodName) prog_3_method_13_code (2 : Nat) (Option.some Jvm.ClassFile.FieldType.int)) ∈ lw_all := lw_g (lw_at lw_m5 202 rfl) rfl
theorem q1226 : (Jvm.Cond.methodLink "BrushSellers$House" (66 : Nat) ({ cls := "BrushSellers$House", name := "steps", desc := "()I" } : Jvm.MethodName)) ∈ lw_all := lw_g (lw_at lw_m5 203 rfl) rfl
theorem q1227 : (Jvm.Cond.instanceMethod ({ cls := "BrushSellers$House", name := "steps", desc := "()I" } : Jvm.MethodName)) ∈ lw_all := lw_g (lw_at lw_m5 204 rfl) rfl
theorem q1228 : (Jvm.Cond.selects "BrushSellers$House" ({ cls := "BrushSellers$House", name := "steps", desc := "()I" } : Jvm.MethodName) ({ cls := "BrushSellers$House", name := "steps", desc := "()I" } : Jvm.MethodName)) ∈ lw_all := lw_g (lw_at lw_m5 205 rfl) rfl
theorem q1229 : (Jvm.Cond.code ({ cls := "BrushSellers$House", name := "steps", desc := "()I" } : Jvm.MethodName) prog_3_method_5_code (1 : Nat) (Option.some Jvm.ClassFile.FieldType.int)) ∈ lw_all := lw_g (lw_at lw_m5 206 rfl) rfl
theorem q1230 : (Jvm.Cond.methodLink "BrushSellers$House" (93 : Nat) ({ cls := "BrushSellers$House", name := "set", desc := "()I" } : Jvm.MethodName)) ∈ lw_all := lw_g (lw_at lw_m5 207 rfl) rfl
theorem q1231 : (Jvm.Cond.instanceMethod ({ cls := "BrushSellers$House", name := "set", desc := "()I" } : Jvm.MethodName)) ∈ lw_all := lw_g (lw_at lw_m5 208 rfl) rfl
theorem q1232 : (Jvm.Cond.selects "BrushSellers$House" ({ cls := "BrushSellers$House", name := "set", desc := "()I" } : Jvm.MethodName) ({ cls := "BrushSellers$House", name := "set", desc := "()I" } : Jvm.MethodName)) ∈ lw_all := lw_g (lw_at lw_m5 209 rfl) rfl
theorem q1233 : (Jvm.Cond.code ({ cls := "BrushSellers$House", name := "set", desc := "()I" } : Jvm.MethodName) prog_3_method_12_code (3 : Nat) (Option.some Jvm.ClassFile.FieldType.int)) ∈ lw_all := lw_g (lw_at lw_m5 210 rfl) rfl
theorem q1234 : (Jvm.Cond.methodLink "BrushSellers$House" (89 : Nat) ({ cls := "java/util/BitSet", name := "nextSetBit", desc := "(I)I" } : Jvm.MethodName)) ∈ lw_all := lw_g (lw_at lw_m5 211 rfl) rfl
theorem q1299 : (Jvm.Cond.instanceMethod ({ cls := "BrushSellers$House", name := "isGuarded", desc := "()Z" } : Jvm.MethodName)) ∈ lw_all := lw_g (lw_at lw_m6 36 rfl) rfl
theorem q1300 : (Jvm.Cond.selects "BrushSellers$House" ({ cls := "BrushSellers$House", name := "isGuarded", desc := "()Z" } : Jvm.MethodName) ({ cls := "BrushSellers$House", name := "isGuarded", desc := "()Z" } : Jvm.MethodName)) ∈ lw_all := lw_g (lw_at lw_m6 37 rfl) rfl
theorem q1301 : (Jvm.Cond.code ({ cls := "BrushSellers$House", name := "isGuarded", desc := "()Z" } : Jvm.MethodName) prog_3_method_6_code (1 : Nat) (Option.some Jvm.ClassFile.FieldType.boolean)) ∈ lw_all := lw_g (lw_at lw_m6 38 rfl) rfl
theorem q1331 : (Jvm.Cond.instanceMethod ({ cls := "BrushSellers$House", name := "listensTo", desc := "(I)Z" } : Jvm.MethodName)) ∈ lw_all := lw_g (lw_at lw_m6 68 rfl) rfl
theorem q1332 : (Jvm.Cond.selects "BrushSellers$House" ({ cls := "BrushSellers$House", name := "listensTo", desc := "(I)Z" } : Jvm.MethodName) ({ cls := "BrushSellers$House", name := "listensTo", desc := "(I)Z" } : Jvm.MethodName)) ∈ lw_all := lw_g (lw_at lw_m6 69 rfl) rfl
theorem q1333 : (Jvm.Cond.code ({ cls := "BrushSellers$House", name := "listensTo", desc := "(I)Z" } : Jvm.MethodName) prog_3_method_7_code (3 : Nat) (Option.some Jvm.ClassFile.FieldType.boolean)) ∈ lw_all := lw_g (lw_at lw_m6 70 rfl) rfl
theorem q1334 : (Jvm.Cond.methodLinkNest "BrushSellers$House" (62 : Nat) ({ cls := "BrushSellers", name := "isIn", desc := "(III)Z" } : Jvm.MethodName) "BrushSellers") ∈ lw_tbl := lw_at lw_m6 71 rfl
theorem q1336 : (Jvm.Cond.instanceMethod ({ cls := "BrushSellers$House", name := "wants", desc := "(II)I" } : Jvm.MethodName)) ∈ lw_all := lw_g (lw_at lw_m6 73 rfl) rfl
theorem q1337 : (Jvm.Cond.selects "BrushSellers$House" ({ cls := "BrushSellers$House", name := "wants", desc := "(II)I" } : Jvm.MethodName) ({ cls := "BrushSellers$House", name := "wants", desc := "(II)I" } : Jvm.MethodName)) ∈ lw_all := lw_g (lw_at lw_m6 74 rfl) rfl
theorem q1338 : (Jvm.Cond.code ({ cls := "BrushSellers$House", name := "wants", desc := "(II)I" } : Jvm.MethodName) prog_3_method_8_code (3 : Nat) (Option.some Jvm.ClassFile.FieldType.int)) ∈ lw_all := lw_g (lw_at lw_m6 75 rfl) rfl
theorem q1339 : (Jvm.Cond.methodLink "BrushSellers$House" (70 : Nat) ({ cls := "java/util/BitSet", name := "get", desc := "(I)Z" } : Jvm.MethodName)) ∈ lw_all := lw_g (lw_at lw_m6 76 rfl) rfl
theorem q1343 : (Jvm.Cond.methodLink "BrushSellers$House" (74 : Nat) ({ cls := "java/lang/Math", name := "max", desc := "(II)I" } : Jvm.MethodName)) ∈ lw_all := lw_g (lw_at lw_m6 80 rfl) rfl
theorem q1364 : (Jvm.Cond.instanceMethod ({ cls := "BrushSellers$House", name := "pleases", desc := "(I)V" } : Jvm.MethodName)) ∈ lw_all := lw_g (lw_at lw_m6 101 rfl) rfl
theorem q1365 : (Jvm.Cond.selects "BrushSellers$House" ({ cls := "BrushSellers$House", name := "pleases", desc := "(I)V" } : Jvm.MethodName) ({ cls := "BrushSellers$House", name := "pleases", desc := "(I)V" } : Jvm.MethodName)) ∈ lw_all := lw_g (lw_at lw_m6 102 rfl) rfl
theorem q1366 : (Jvm.Cond.code ({ cls := "BrushSellers$House", name := "pleases", desc := "(I)V" } : Jvm.MethodName) prog_3_method_10_code (2 : Nat) (Option.none : Option Jvm.ClassFile.FieldType)) ∈ lw_all := lw_g (lw_at lw_m6 103 rfl) rfl
theorem q1367 : (Jvm.Cond.methodLink "BrushSellers$House" (86 : Nat) ({ cls := "java/lang/Math", name := "min", desc := "(II)I" } : Jvm.MethodName)) ∈ lw_all := lw_g (lw_at lw_m6 104 rfl) rfl
theorem q1369 : (Jvm.Cond.instanceMethod ({ cls := "BrushSellers$House", name := "buys", desc := "(II)V" } : Jvm.MethodName)) ∈ lw_all := lw_g (lw_at lw_m6 106 rfl) rfl
theorem q1370 : (Jvm.Cond.selects "BrushSellers$House" ({ cls := "BrushSellers$House", name := "buys", desc := "(II)V" } : Jvm.MethodName) ({ cls := "BrushSellers$House", name := "buys", desc := "(II)V" } : Jvm.MethodName)) ∈ lw_all := lw_g (lw_at lw_m6 107 rfl) rfl
theorem q1371 : (Jvm.Cond.code ({ cls := "BrushSellers$House", name := "buys", desc := "(II)V" } : Jvm.MethodName) prog_3_method_9_code (3 : Nat) (Option.none : Option Jvm.ClassFile.FieldType)) ∈ lw_all := lw_g (lw_at lw_m6 108 rfl) rfl
theorem q1372 : (Jvm.Cond.methodLink "BrushSellers$House" (80 : Nat) ({ cls := "java/util/BitSet", name := "set", desc := "(I)V" } : Jvm.MethodName)) ∈ lw_all := lw_g (lw_at lw_m6 109 rfl) rfl
theorem q1380 : (Jvm.Cond.methodLink "BrushSellers$House" (83 : Nat) ({ cls := "BrushSellers$House", name := "pleases", desc := "(I)V" } : Jvm.MethodName)) ∈ lw_all := lw_g (lw_at lw_m6 117 rfl) rfl
theorem q1422 : (Jvm.Cond.instanceMethod ({ cls := "BrushSellers$House", name := "dayEnds", desc := "()V" } : Jvm.MethodName)) ∈ lw_all := lw_g (lw_at lw_m6 159 rfl) rfl
theorem q1423 : (Jvm.Cond.selects "BrushSellers$House" ({ cls := "BrushSellers$House", name := "dayEnds", desc := "()V" } : Jvm.MethodName) ({ cls := "BrushSellers$House", name := "dayEnds", desc := "()V" } : Jvm.MethodName)) ∈ lw_all := lw_g (lw_at lw_m6 160 rfl) rfl
theorem q1424 : (Jvm.Cond.code ({ cls := "BrushSellers$House", name := "dayEnds", desc := "()V" } : Jvm.MethodName) prog_3_method_11_code (1 : Nat) (Option.none : Option Jvm.ClassFile.FieldType)) ∈ lw_all := lw_g (lw_at lw_m6 161 rfl) rfl
theorem q1775 : (Jvm.Cond.instanceMethod ({ cls := "BrushSellers$House", name := "text", desc := "()Ljava/lang/String;" } : Jvm.MethodName)) ∈ lw_all := lw_g (lw_at lw_m8 32 rfl) rfl
theorem q1776 : (Jvm.Cond.selects "BrushSellers$House" ({ cls := "BrushSellers$House", name := "text", desc := "()Ljava/lang/String;" } : Jvm.MethodName) ({ cls := "BrushSellers$House", name := "text", desc := "()Ljava/lang/String;" } : Jvm.MethodName)) ∈ lw_all := lw_g (lw_at lw_m8 33 rfl) rfl
theorem q1777 : (Jvm.Cond.code ({ cls := "BrushSellers$House", name := "text", desc := "()Ljava/lang/String;" } : Jvm.MethodName) prog_3_method_4_code (1 : Nat) (Option.some (Jvm.ClassFile.FieldType.object "java/lang/String"))) ∈ lw_all := lw_g (lw_at lw_m8 34 rfl) rfl
theorem q1778 : (Jvm.Cond.classLink "BrushSellers$House" (38 : Nat) "java/lang/StringBuilder") ∈ lw_all := lw_g (lw_at lw_m8 35 rfl) rfl
theorem q1779 : (Jvm.Cond.methodLink "BrushSellers$House" (40 : Nat) ({ cls := "java/lang/StringBuilder", name := "<init>", desc := "()V" } : Jvm.MethodName)) ∈ lw_all := lw_g (lw_at lw_m8 36 rfl) rfl
theorem q1780 : (Jvm.Cond.methodLink "BrushSellers$House" (41 : Nat) ({ cls := "java/lang/StringBuilder", name := "append", desc := "(I)Ljava/lang/StringBuilder;" } : Jvm.MethodName)) ∈ lw_all := lw_g (lw_at lw_m8 37 rfl) rfl
theorem q1781 : (Jvm.Cond.methodLink "BrushSellers$House" (45 : Nat) ({ cls := "BrushSellers$House", name := "isGuarded", desc := "()Z" } : Jvm.MethodName)) ∈ lw_all := lw_g (lw_at lw_m8 38 rfl) rfl
theorem q1782 : (Jvm.Cond.stringRef "BrushSellers$House" (49 : Nat) "!") ∈ lw_tbl := lw_at lw_m8 39 rfl
theorem q1783 : (Jvm.Cond.stringRef "BrushSellers$House" (51 : Nat) "") ∈ lw_tbl := lw_at lw_m8 40 rfl
theorem q1784 : (Jvm.Cond.stringRef "BrushSellers$House" (53 : Nat) "d") ∈ lw_tbl := lw_at lw_m8 41 rfl
theorem q1785 : (Jvm.Cond.methodLink "BrushSellers$House" (55 : Nat) ({ cls := "java/lang/StringBuilder", name := "append", desc := "(Ljava/lang/String;)Ljava/lang/StringBuilder;" } : Jvm.MethodName)) ∈ lw_all := lw_g (lw_at lw_m8 42 rfl) rfl
theorem q1786 : (Jvm.Cond.methodLink "BrushSellers$House" (58 : Nat) ({ cls := "java/lang/StringBuilder", name := "toString", desc := "()Ljava/lang/String;" } : Jvm.MethodName)) ∈ lw_all := lw_g (lw_at lw_m8 43 rfl) rfl
theorem q2257 : (Jvm.Cond.castable "BrushSellers$House" "java/lang/Object") ∈ lw_tbl := lw_at lw_m10 34 rfl
theorem in_X2 : ∀ w ∈ wsX20, w ∈ lw_all := lw_in wsX20 [215, 217, 219, 221, 223] (by decide +kernel) (by decide +kernel)

/-! BrushSellers$Seller -/
set_option maxRecDepth 100000
def RX4 : String := "BrushSellers$Seller"
def TX4 : u_T := fun k => match k with
  | 0 => ("BrushSellers$Seller", "charm", "I", true)
  | 1 => ("BrushSellers$Seller", "house", "I", false)
  | 2 => ("BrushSellers$Seller", "worn", "I", false)
  | 3 => ("BrushSellers$Seller", "brushes", "[I", true)
  | 4 => ("BrushSellers$Seller", "sold", "I", false)
  | 5 => ("BrushSellers$Seller", "back", "I", false)
  | _ => ("BrushSellers$Seller", "gone", "I", false)
def tyX4 : Nat → FieldType := fun k => match k with
  | 0 => .int
  | 1 => .int
  | 2 => .int
  | 3 => .array .int
  | 4 => .int
  | 5 => .int
  | _ => .int
abbrev wsX40 : List Cond := u_ws RX4 TX4 7
theorem nmX4 : ∀ a, a < 7 → ∀ b, b < 7 → a ≠ b → (TX4 a).2.1 ≠ (TX4 b).2.1 := by decide +kernel
theorem tyX4_ok : ∀ k, k < 7 → parseFieldDescriptor (TX4 k).2.2.1 = some (tyX4 k) := by decide +kernel
abbrev cX4_copy : ByteArray := prog_9_method_2_code
def yX4_copy : MethodName := ⟨RX4, "copy", "()LBrushSellers$Seller;"⟩
def dkwX4_copy_2 : List UInt8 := [180, 0, 34, 181, 0, 34, 43, 42, 180, 0, 37, 181, 0, 37, 43, 42, 180, 0, 40, 181, 0, 40, 43, 176]
abbrev dktX4_copy_2 : List UInt8 := dkwX4_copy_2 ++ []
def dkwX4_copy_1 : List UInt8 := [180, 0, 25, 181, 0, 25, 42, 180, 0, 9, 3, 43, 180, 0, 9, 3, 6, 184, 0, 28, 43, 42]
abbrev dktX4_copy_1 : List UInt8 := dkwX4_copy_1 ++ dktX4_copy_2
def dkwX4_copy_0 : List UInt8 := [187, 0, 10, 89, 42, 180, 0, 15, 183, 0, 19, 76, 43, 42, 180, 0, 22, 181, 0, 22, 43, 42]
abbrev dktX4_copy_0 : List UInt8 := dkwX4_copy_0 ++ dktX4_copy_1
theorem dksX4_copy_0 : cX4_copy.data.toList.drop 0 = dktX4_copy_0 := by decide +kernel
theorem dksX4_copy_1 : cX4_copy.data.toList.drop 22 = dktX4_copy_1 := dk_seg dksX4_copy_0 22 rfl rfl
theorem dksX4_copy_2 : cX4_copy.data.toList.drop 44 = dktX4_copy_2 := dk_seg dksX4_copy_1 22 rfl rfl
theorem dX4_copy_0 : decode cX4_copy 0 = .ok (.new 10, 3) := dk_187 0 10 (dk_at dksX4_copy_0 0 rfl rfl)
theorem dX4_copy_3 : decode cX4_copy 3 = .ok (.dup, 1) := dk_89 (dk_at dksX4_copy_0 3 rfl rfl)
theorem dX4_copy_4 : decode cX4_copy 4 = .ok (.aload_n 0, 1) := dk_42 (dk_at dksX4_copy_0 4 rfl rfl)
theorem dX4_copy_5 : decode cX4_copy 5 = .ok (.getfield 15, 3) := dk_180 0 15 (dk_at dksX4_copy_0 5 rfl rfl)
theorem dX4_copy_8 : decode cX4_copy 8 = .ok (.invokespecial 19, 3) := dk_183 0 19 (dk_at dksX4_copy_0 8 rfl rfl)
theorem dX4_copy_11 : decode cX4_copy 11 = .ok (.astore_n 1, 1) := dk_76 (dk_at dksX4_copy_0 11 rfl rfl)
theorem dX4_copy_12 : decode cX4_copy 12 = .ok (.aload_n 1, 1) := dk_43 (dk_at dksX4_copy_0 12 rfl rfl)
theorem dX4_copy_13 : decode cX4_copy 13 = .ok (.aload_n 0, 1) := dk_42 (dk_at dksX4_copy_0 13 rfl rfl)
theorem dX4_copy_14 : decode cX4_copy 14 = .ok (.getfield 22, 3) := dk_180 0 22 (dk_at dksX4_copy_0 14 rfl rfl)
theorem dX4_copy_17 : decode cX4_copy 17 = .ok (.putfield 22, 3) := dk_181 0 22 (dk_at dksX4_copy_0 17 rfl rfl)
theorem dX4_copy_20 : decode cX4_copy 20 = .ok (.aload_n 1, 1) := dk_43 (dk_at dksX4_copy_0 20 rfl rfl)
theorem dX4_copy_21 : decode cX4_copy 21 = .ok (.aload_n 0, 1) := dk_42 (dk_at dksX4_copy_0 21 rfl rfl)
theorem dX4_copy_22 : decode cX4_copy 22 = .ok (.getfield 25, 3) := dk_180 0 25 (dk_at dksX4_copy_1 0 rfl rfl)
theorem dX4_copy_25 : decode cX4_copy 25 = .ok (.putfield 25, 3) := dk_181 0 25 (dk_at dksX4_copy_1 3 rfl rfl)
theorem dX4_copy_28 : decode cX4_copy 28 = .ok (.aload_n 0, 1) := dk_42 (dk_at dksX4_copy_1 6 rfl rfl)
theorem dX4_copy_29 : decode cX4_copy 29 = .ok (.getfield 9, 3) := dk_180 0 9 (dk_at dksX4_copy_1 7 rfl rfl)
theorem dX4_copy_32 : decode cX4_copy 32 = .ok (.iconst 0, 1) := dk_3 (dk_at dksX4_copy_1 10 rfl rfl)
theorem dX4_copy_33 : decode cX4_copy 33 = .ok (.aload_n 1, 1) := dk_43 (dk_at dksX4_copy_1 11 rfl rfl)
theorem dX4_copy_34 : decode cX4_copy 34 = .ok (.getfield 9, 3) := dk_180 0 9 (dk_at dksX4_copy_1 12 rfl rfl)
theorem dX4_copy_37 : decode cX4_copy 37 = .ok (.iconst 0, 1) := dk_3 (dk_at dksX4_copy_1 15 rfl rfl)
theorem dX4_copy_38 : decode cX4_copy 38 = .ok (.iconst 3, 1) := dk_6 (dk_at dksX4_copy_1 16 rfl rfl)
theorem dX4_copy_39 : decode cX4_copy 39 = .ok (.invokestatic 28, 3) := dk_184 0 28 (dk_at dksX4_copy_1 17 rfl rfl)
theorem dX4_copy_42 : decode cX4_copy 42 = .ok (.aload_n 1, 1) := dk_43 (dk_at dksX4_copy_1 20 rfl rfl)
theorem dX4_copy_43 : decode cX4_copy 43 = .ok (.aload_n 0, 1) := dk_42 (dk_at dksX4_copy_1 21 rfl rfl)
theorem dX4_copy_44 : decode cX4_copy 44 = .ok (.getfield 34, 3) := dk_180 0 34 (dk_at dksX4_copy_2 0 rfl rfl)
theorem dX4_copy_47 : decode cX4_copy 47 = .ok (.putfield 34, 3) := dk_181 0 34 (dk_at dksX4_copy_2 3 rfl rfl)
theorem dX4_copy_50 : decode cX4_copy 50 = .ok (.aload_n 1, 1) := dk_43 (dk_at dksX4_copy_2 6 rfl rfl)
theorem dX4_copy_51 : decode cX4_copy 51 = .ok (.aload_n 0, 1) := dk_42 (dk_at dksX4_copy_2 7 rfl rfl)
theorem dX4_copy_52 : decode cX4_copy 52 = .ok (.getfield 37, 3) := dk_180 0 37 (dk_at dksX4_copy_2 8 rfl rfl)
theorem dX4_copy_55 : decode cX4_copy 55 = .ok (.putfield 37, 3) := dk_181 0 37 (dk_at dksX4_copy_2 11 rfl rfl)
theorem dX4_copy_58 : decode cX4_copy 58 = .ok (.aload_n 1, 1) := dk_43 (dk_at dksX4_copy_2 14 rfl rfl)
theorem dX4_copy_59 : decode cX4_copy 59 = .ok (.aload_n 0, 1) := dk_42 (dk_at dksX4_copy_2 15 rfl rfl)
theorem dX4_copy_60 : decode cX4_copy 60 = .ok (.getfield 40, 3) := dk_180 0 40 (dk_at dksX4_copy_2 16 rfl rfl)
theorem dX4_copy_63 : decode cX4_copy 63 = .ok (.putfield 40, 3) := dk_181 0 40 (dk_at dksX4_copy_2 19 rfl rfl)
theorem dX4_copy_66 : decode cX4_copy 66 = .ok (.aload_n 1, 1) := dk_43 (dk_at dksX4_copy_2 22 rfl rfl)
theorem dX4_copy_67 : decode cX4_copy 67 = .ok (.areturn, 1) := dk_176 (dk_at dksX4_copy_2 23 rfl rfl)
abbrev cX4_init : ByteArray := prog_9_method_1_code
def yX4_init : MethodName := ⟨RX4, "<init>", "(I)V"⟩
def dkwX4_init_0 : List UInt8 := [42, 183, 0, 3, 42, 6, 188, 10, 181, 0, 9, 42, 27, 181, 0, 15, 177]
abbrev dktX4_init_0 : List UInt8 := dkwX4_init_0 ++ []
theorem dksX4_init_0 : cX4_init.data.toList.drop 0 = dktX4_init_0 := by decide +kernel
theorem dX4_init_0 : decode cX4_init 0 = .ok (.aload_n 0, 1) := dk_42 (dk_at dksX4_init_0 0 rfl rfl)
theorem dX4_init_1 : decode cX4_init 1 = .ok (.invokespecial 3, 3) := dk_183 0 3 (dk_at dksX4_init_0 1 rfl rfl)
theorem dX4_init_4 : decode cX4_init 4 = .ok (.aload_n 0, 1) := dk_42 (dk_at dksX4_init_0 4 rfl rfl)
theorem dX4_init_5 : decode cX4_init 5 = .ok (.iconst 3, 1) := dk_6 (dk_at dksX4_init_0 5 rfl rfl)
theorem dX4_init_6 : decode cX4_init 6 = .ok (.newarray .int, 2) := dk_188_10 (dk_at dksX4_init_0 6 rfl rfl)
theorem dX4_init_8 : decode cX4_init 8 = .ok (.putfield 9, 3) := dk_181 0 9 (dk_at dksX4_init_0 8 rfl rfl)
theorem dX4_init_11 : decode cX4_init 11 = .ok (.aload_n 0, 1) := dk_42 (dk_at dksX4_init_0 11 rfl rfl)
theorem dX4_init_12 : decode cX4_init 12 = .ok (.iload_n 1, 1) := dk_27 (dk_at dksX4_init_0 12 rfl rfl)
theorem dX4_init_13 : decode cX4_init 13 = .ok (.putfield 15, 3) := dk_181 0 15 (dk_at dksX4_init_0 13 rfl rfl)
theorem dX4_init_16 : decode cX4_init 16 = .ok (.return_, 1) := dk_177 (dk_at dksX4_init_0 16 rfl rfl)
abbrev cX4_house : ByteArray := prog_9_method_3_code
def yX4_house : MethodName := ⟨RX4, "house", "()I"⟩
theorem dX4_house_0 : decode cX4_house 0 = .ok (.aload_n 0, 1) := by decide +kernel
theorem dX4_house_1 : decode cX4_house 1 = .ok (.getfield 22, 3) := by decide +kernel
theorem dX4_house_4 : decode cX4_house 4 = .ok (.ireturn, 1) := by decide +kernel
abbrev cX4_room : ByteArray := prog_9_method_6_code
def yX4_room : MethodName := ⟨RX4, "room", "(I)I"⟩
def dkwX4_room_0 : List UInt8 := [16, 12, 42, 180, 0, 9, 27, 46, 100, 172]
abbrev dktX4_room_0 : List UInt8 := dkwX4_room_0 ++ []
theorem dksX4_room_0 : cX4_room.data.toList.drop 0 = dktX4_room_0 := by decide +kernel
theorem dX4_room_0 : decode cX4_room 0 = .ok (.bipush 12, 2) := dk_16 12 (dk_at dksX4_room_0 0 rfl rfl)
theorem dX4_room_2 : decode cX4_room 2 = .ok (.aload_n 0, 1) := dk_42 (dk_at dksX4_room_0 2 rfl rfl)
theorem dX4_room_3 : decode cX4_room 3 = .ok (.getfield 9, 3) := dk_180 0 9 (dk_at dksX4_room_0 3 rfl rfl)
theorem dX4_room_6 : decode cX4_room 6 = .ok (.iload_n 1, 1) := dk_27 (dk_at dksX4_room_0 6 rfl rfl)
theorem dX4_room_7 : decode cX4_room 7 = .ok (.iaload, 1) := dk_46 (dk_at dksX4_room_0 7 rfl rfl)
theorem dX4_room_8 : decode cX4_room 8 = .ok (.isub, 1) := dk_100 (dk_at dksX4_room_0 8 rfl rfl)
theorem dX4_room_9 : decode cX4_room 9 = .ok (.ireturn, 1) := dk_172 (dk_at dksX4_room_0 9 rfl rfl)
abbrev cX4_value : ByteArray := prog_9_method_11_code
def yX4_value : MethodName := ⟨RX4, "value", "(I)I"⟩
def dkwX4_value_4 : List UInt8 := [42, 180, 0, 40, 167, 0, 5, 16, 244, 172]
abbrev dktX4_value_4 : List UInt8 := dkwX4_value_4 ++ []
def dkwX4_value_3 : List UInt8 := [180, 0, 9, 27, 6, 100, 46, 167, 0, 26, 42, 180, 0, 34, 167, 0, 19, 42, 180, 0, 37, 167, 0, 12]
abbrev dktX4_value_3 : List UInt8 := dkwX4_value_3 ++ dktX4_value_4
def dkwX4_value_2 : List UInt8 := [42, 180, 0, 15, 167, 0, 51, 42, 180, 0, 22, 167, 0, 44, 42, 180, 0, 25, 167, 0, 37, 42]
abbrev dktX4_value_2 : List UInt8 := dkwX4_value_2 ++ dktX4_value_3
def dkwX4_value_1 : List UInt8 := [170, 0, 0, 0, 0, 0, 104, 0, 0, 0, 0, 0, 0, 0, 8, 0, 0, 0, 51, 0, 0, 0, 58, 0, 0, 0, 65, 0, 0, 0, 72, 0, 0, 0, 72, 0, 0, 0, 72, 0, 0, 0, 83, 0, 0, 0, 90, 0, 0, 0, 97]
abbrev dktX4_value_1 : List UInt8 := dkwX4_value_1 ++ dktX4_value_2
def dkwX4_value_0 : List UInt8 := [27]
abbrev dktX4_value_0 : List UInt8 := dkwX4_value_0 ++ dktX4_value_1
theorem dksX4_value_0 : cX4_value.data.toList.drop 0 = dktX4_value_0 := by decide +kernel
theorem dksX4_value_1 : cX4_value.data.toList.drop 1 = dktX4_value_1 := dk_seg dksX4_value_0 1 rfl rfl
theorem dksX4_value_2 : cX4_value.data.toList.drop 52 = dktX4_value_2 := dk_seg dksX4_value_1 51 rfl rfl
theorem dksX4_value_3 : cX4_value.data.toList.drop 74 = dktX4_value_3 := dk_seg dksX4_value_2 22 rfl rfl
theorem dksX4_value_4 : cX4_value.data.toList.drop 98 = dktX4_value_4 := dk_seg dksX4_value_3 24 rfl rfl
theorem dX4_value_0 : decode cX4_value 0 = .ok (.iload_n 1, 1) := dk_27 (dk_at dksX4_value_0 0 rfl rfl)
theorem dX4_value_1 : decode cX4_value 1 = .ok (.tableswitch 104 0 8 #[51, 58, 65, 72, 72, 72, 83, 90, 97], 51) := by decide +kernel
theorem dX4_value_52 : decode cX4_value 52 = .ok (.aload_n 0, 1) := dk_42 (dk_at dksX4_value_2 0 rfl rfl)
theorem dX4_value_53 : decode cX4_value 53 = .ok (.getfield 15, 3) := dk_180 0 15 (dk_at dksX4_value_2 1 rfl rfl)
theorem dX4_value_56 : decode cX4_value 56 = .ok (.goto 51, 3) := dk_167 0 51 (dk_at dksX4_value_2 4 rfl rfl)
theorem dX4_value_59 : decode cX4_value 59 = .ok (.aload_n 0, 1) := dk_42 (dk_at dksX4_value_2 7 rfl rfl)
theorem dX4_value_60 : decode cX4_value 60 = .ok (.getfield 22, 3) := dk_180 0 22 (dk_at dksX4_value_2 8 rfl rfl)
theorem dX4_value_63 : decode cX4_value 63 = .ok (.goto 44, 3) := dk_167 0 44 (dk_at dksX4_value_2 11 rfl rfl)
theorem dX4_value_66 : decode cX4_value 66 = .ok (.aload_n 0, 1) := dk_42 (dk_at dksX4_value_2 14 rfl rfl)
theorem dX4_value_67 : decode cX4_value 67 = .ok (.getfield 25, 3) := dk_180 0 25 (dk_at dksX4_value_2 15 rfl rfl)
theorem dX4_value_70 : decode cX4_value 70 = .ok (.goto 37, 3) := dk_167 0 37 (dk_at dksX4_value_2 18 rfl rfl)
theorem dX4_value_73 : decode cX4_value 73 = .ok (.aload_n 0, 1) := dk_42 (dk_at dksX4_value_2 21 rfl rfl)
theorem dX4_value_74 : decode cX4_value 74 = .ok (.getfield 9, 3) := dk_180 0 9 (dk_at dksX4_value_3 0 rfl rfl)
theorem dX4_value_77 : decode cX4_value 77 = .ok (.iload_n 1, 1) := dk_27 (dk_at dksX4_value_3 3 rfl rfl)
theorem dX4_value_78 : decode cX4_value 78 = .ok (.iconst 3, 1) := dk_6 (dk_at dksX4_value_3 4 rfl rfl)
theorem dX4_value_79 : decode cX4_value 79 = .ok (.isub, 1) := dk_100 (dk_at dksX4_value_3 5 rfl rfl)
theorem dX4_value_80 : decode cX4_value 80 = .ok (.iaload, 1) := dk_46 (dk_at dksX4_value_3 6 rfl rfl)
theorem dX4_value_81 : decode cX4_value 81 = .ok (.goto 26, 3) := dk_167 0 26 (dk_at dksX4_value_3 7 rfl rfl)
theorem dX4_value_84 : decode cX4_value 84 = .ok (.aload_n 0, 1) := dk_42 (dk_at dksX4_value_3 10 rfl rfl)
theorem dX4_value_85 : decode cX4_value 85 = .ok (.getfield 34, 3) := dk_180 0 34 (dk_at dksX4_value_3 11 rfl rfl)
theorem dX4_value_88 : decode cX4_value 88 = .ok (.goto 19, 3) := dk_167 0 19 (dk_at dksX4_value_3 14 rfl rfl)
theorem dX4_value_91 : decode cX4_value 91 = .ok (.aload_n 0, 1) := dk_42 (dk_at dksX4_value_3 17 rfl rfl)
theorem dX4_value_92 : decode cX4_value 92 = .ok (.getfield 37, 3) := dk_180 0 37 (dk_at dksX4_value_3 18 rfl rfl)
theorem dX4_value_95 : decode cX4_value 95 = .ok (.goto 12, 3) := dk_167 0 12 (dk_at dksX4_value_3 21 rfl rfl)
theorem dX4_value_98 : decode cX4_value 98 = .ok (.aload_n 0, 1) := dk_42 (dk_at dksX4_value_4 0 rfl rfl)
theorem dX4_value_99 : decode cX4_value 99 = .ok (.getfield 40, 3) := dk_180 0 40 (dk_at dksX4_value_4 1 rfl rfl)
theorem dX4_value_102 : decode cX4_value 102 = .ok (.goto 5, 3) := dk_167 0 5 (dk_at dksX4_value_4 4 rfl rfl)
theorem dX4_value_105 : decode cX4_value 105 = .ok (.bipush (-12), 2) := dk_16 244 (dk_at dksX4_value_4 7 rfl rfl)
theorem dX4_value_107 : decode cX4_value 107 = .ok (.ireturn, 1) := dk_172 (dk_at dksX4_value_4 9 rfl rfl)
abbrev cX4_checkSoles : ByteArray := prog_9_method_7_code
def yX4_checkSoles : MethodName := ⟨RX4, "checkSoles", "(I)V"⟩
def dkwX4_checkSoles_1 : List UInt8 := [16, 100, 100, 184, 0, 67, 177]
abbrev dktX4_checkSoles_1 : List UInt8 := dkwX4_checkSoles_1 ++ []
def dkwX4_checkSoles_0 : List UInt8 := [42, 180, 0, 25, 27, 96, 16, 100, 164, 0, 7, 4, 167, 0, 4, 3, 5, 42, 180, 0, 25, 27, 96]
abbrev dktX4_checkSoles_0 : List UInt8 := dkwX4_checkSoles_0 ++ dktX4_checkSoles_1
theorem dksX4_checkSoles_0 : cX4_checkSoles.data.toList.drop 0 = dktX4_checkSoles_0 := by decide +kernel
theorem dksX4_checkSoles_1 : cX4_checkSoles.data.toList.drop 23 = dktX4_checkSoles_1 := dk_seg dksX4_checkSoles_0 23 rfl rfl
theorem dX4_checkSoles_0 : decode cX4_checkSoles 0 = .ok (.aload_n 0, 1) := dk_42 (dk_at dksX4_checkSoles_0 0 rfl rfl)
theorem dX4_checkSoles_1 : decode cX4_checkSoles 1 = .ok (.getfield 25, 3) := dk_180 0 25 (dk_at dksX4_checkSoles_0 1 rfl rfl)
theorem dX4_checkSoles_4 : decode cX4_checkSoles 4 = .ok (.iload_n 1, 1) := dk_27 (dk_at dksX4_checkSoles_0 4 rfl rfl)
theorem dX4_checkSoles_5 : decode cX4_checkSoles 5 = .ok (.iadd, 1) := dk_96 (dk_at dksX4_checkSoles_0 5 rfl rfl)
theorem dX4_checkSoles_6 : decode cX4_checkSoles 6 = .ok (.bipush 100, 2) := dk_16 100 (dk_at dksX4_checkSoles_0 6 rfl rfl)
theorem dX4_checkSoles_8 : decode cX4_checkSoles 8 = .ok (.if_icmp .le 7, 3) := dk_164 0 7 (dk_at dksX4_checkSoles_0 8 rfl rfl)
theorem dX4_checkSoles_11 : decode cX4_checkSoles 11 = .ok (.iconst 1, 1) := dk_4 (dk_at dksX4_checkSoles_0 11 rfl rfl)
theorem dX4_checkSoles_12 : decode cX4_checkSoles 12 = .ok (.goto 4, 3) := dk_167 0 4 (dk_at dksX4_checkSoles_0 12 rfl rfl)
theorem dX4_checkSoles_15 : decode cX4_checkSoles 15 = .ok (.iconst 0, 1) := dk_3 (dk_at dksX4_checkSoles_0 15 rfl rfl)
theorem dX4_checkSoles_16 : decode cX4_checkSoles 16 = .ok (.iconst 2, 1) := dk_5 (dk_at dksX4_checkSoles_0 16 rfl rfl)
theorem dX4_checkSoles_17 : decode cX4_checkSoles 17 = .ok (.aload_n 0, 1) := dk_42 (dk_at dksX4_checkSoles_0 17 rfl rfl)
theorem dX4_checkSoles_18 : decode cX4_checkSoles 18 = .ok (.getfield 25, 3) := dk_180 0 25 (dk_at dksX4_checkSoles_0 18 rfl rfl)
theorem dX4_checkSoles_21 : decode cX4_checkSoles 21 = .ok (.iload_n 1, 1) := dk_27 (dk_at dksX4_checkSoles_0 21 rfl rfl)
theorem dX4_checkSoles_22 : decode cX4_checkSoles 22 = .ok (.iadd, 1) := dk_96 (dk_at dksX4_checkSoles_0 22 rfl rfl)
theorem dX4_checkSoles_23 : decode cX4_checkSoles 23 = .ok (.bipush 100, 2) := dk_16 100 (dk_at dksX4_checkSoles_1 0 rfl rfl)
theorem dX4_checkSoles_25 : decode cX4_checkSoles 25 = .ok (.isub, 1) := dk_100 (dk_at dksX4_checkSoles_1 2 rfl rfl)
theorem dX4_checkSoles_26 : decode cX4_checkSoles 26 = .ok (.invokestatic 67, 3) := dk_184 0 67 (dk_at dksX4_checkSoles_1 3 rfl rfl)
theorem dX4_checkSoles_29 : decode cX4_checkSoles 29 = .ok (.return_, 1) := dk_177 (dk_at dksX4_checkSoles_1 6 rfl rfl)
abbrev cX4_goesTo : ByteArray := prog_9_method_8_code
def yX4_goesTo : MethodName := ⟨RX4, "goesTo", "(I)V"⟩
def dkwX4_goesTo_1 : List UInt8 := [181, 0, 40, 42, 27, 181, 0, 22, 177]
abbrev dktX4_goesTo_1 : List UInt8 := dkwX4_goesTo_1 ++ []
def dkwX4_goesTo_0 : List UInt8 := [42, 27, 182, 0, 71, 61, 42, 89, 180, 0, 25, 28, 96, 181, 0, 25, 42, 89, 180, 0, 40, 28, 96]
abbrev dktX4_goesTo_0 : List UInt8 := dkwX4_goesTo_0 ++ dktX4_goesTo_1
theorem dksX4_goesTo_0 : cX4_goesTo.data.toList.drop 0 = dktX4_goesTo_0 := by decide +kernel
theorem dksX4_goesTo_1 : cX4_goesTo.data.toList.drop 23 = dktX4_goesTo_1 := dk_seg dksX4_goesTo_0 23 rfl rfl
theorem dX4_goesTo_0 : decode cX4_goesTo 0 = .ok (.aload_n 0, 1) := dk_42 (dk_at dksX4_goesTo_0 0 rfl rfl)
theorem dX4_goesTo_1 : decode cX4_goesTo 1 = .ok (.iload_n 1, 1) := dk_27 (dk_at dksX4_goesTo_0 1 rfl rfl)
theorem dX4_goesTo_2 : decode cX4_goesTo 2 = .ok (.invokevirtual 71, 3) := dk_182 0 71 (dk_at dksX4_goesTo_0 2 rfl rfl)
theorem dX4_goesTo_5 : decode cX4_goesTo 5 = .ok (.istore_n 2, 1) := dk_61 (dk_at dksX4_goesTo_0 5 rfl rfl)
theorem dX4_goesTo_6 : decode cX4_goesTo 6 = .ok (.aload_n 0, 1) := dk_42 (dk_at dksX4_goesTo_0 6 rfl rfl)
theorem dX4_goesTo_7 : decode cX4_goesTo 7 = .ok (.dup, 1) := dk_89 (dk_at dksX4_goesTo_0 7 rfl rfl)
theorem dX4_goesTo_8 : decode cX4_goesTo 8 = .ok (.getfield 25, 3) := dk_180 0 25 (dk_at dksX4_goesTo_0 8 rfl rfl)
theorem dX4_goesTo_11 : decode cX4_goesTo 11 = .ok (.iload_n 2, 1) := dk_28 (dk_at dksX4_goesTo_0 11 rfl rfl)
theorem dX4_goesTo_12 : decode cX4_goesTo 12 = .ok (.iadd, 1) := dk_96 (dk_at dksX4_goesTo_0 12 rfl rfl)
theorem dX4_goesTo_13 : decode cX4_goesTo 13 = .ok (.putfield 25, 3) := dk_181 0 25 (dk_at dksX4_goesTo_0 13 rfl rfl)
theorem dX4_goesTo_16 : decode cX4_goesTo 16 = .ok (.aload_n 0, 1) := dk_42 (dk_at dksX4_goesTo_0 16 rfl rfl)
theorem dX4_goesTo_17 : decode cX4_goesTo 17 = .ok (.dup, 1) := dk_89 (dk_at dksX4_goesTo_0 17 rfl rfl)
theorem dX4_goesTo_18 : decode cX4_goesTo 18 = .ok (.getfield 40, 3) := dk_180 0 40 (dk_at dksX4_goesTo_0 18 rfl rfl)
theorem dX4_goesTo_21 : decode cX4_goesTo 21 = .ok (.iload_n 2, 1) := dk_28 (dk_at dksX4_goesTo_0 21 rfl rfl)
theorem dX4_goesTo_22 : decode cX4_goesTo 22 = .ok (.iadd, 1) := dk_96 (dk_at dksX4_goesTo_0 22 rfl rfl)
theorem dX4_goesTo_23 : decode cX4_goesTo 23 = .ok (.putfield 40, 3) := dk_181 0 40 (dk_at dksX4_goesTo_1 0 rfl rfl)
theorem dX4_goesTo_26 : decode cX4_goesTo 26 = .ok (.aload_n 0, 1) := dk_42 (dk_at dksX4_goesTo_1 3 rfl rfl)
theorem dX4_goesTo_27 : decode cX4_goesTo 27 = .ok (.iload_n 1, 1) := dk_27 (dk_at dksX4_goesTo_1 4 rfl rfl)
theorem dX4_goesTo_28 : decode cX4_goesTo 28 = .ok (.putfield 22, 3) := dk_181 0 22 (dk_at dksX4_goesTo_1 5 rfl rfl)
theorem dX4_goesTo_31 : decode cX4_goesTo 31 = .ok (.return_, 1) := dk_177 (dk_at dksX4_goesTo_1 8 rfl rfl)
abbrev cX4_rounds : ByteArray := prog_9_method_9_code
def yX4_rounds : MethodName := ⟨RX4, "rounds", "(I)I"⟩
def dkwX4_rounds_1 : List UInt8 := [27, 182, 0, 71, 104, 96, 61, 132, 3, 1, 167, 255, 229, 29, 172]
abbrev dktX4_rounds_1 : List UInt8 := dkwX4_rounds_1 ++ []
def dkwX4_rounds_0 : List UInt8 := [42, 180, 0, 25, 61, 3, 62, 28, 5, 42, 27, 182, 0, 71, 104, 96, 16, 100, 163, 0, 19, 28, 5, 42]
abbrev dktX4_rounds_0 : List UInt8 := dkwX4_rounds_0 ++ dktX4_rounds_1
theorem dksX4_rounds_0 : cX4_rounds.data.toList.drop 0 = dktX4_rounds_0 := by decide +kernel
theorem dksX4_rounds_1 : cX4_rounds.data.toList.drop 24 = dktX4_rounds_1 := dk_seg dksX4_rounds_0 24 rfl rfl
theorem dX4_rounds_0 : decode cX4_rounds 0 = .ok (.aload_n 0, 1) := dk_42 (dk_at dksX4_rounds_0 0 rfl rfl)
theorem dX4_rounds_1 : decode cX4_rounds 1 = .ok (.getfield 25, 3) := dk_180 0 25 (dk_at dksX4_rounds_0 1 rfl rfl)
theorem dX4_rounds_4 : decode cX4_rounds 4 = .ok (.istore_n 2, 1) := dk_61 (dk_at dksX4_rounds_0 4 rfl rfl)
theorem dX4_rounds_5 : decode cX4_rounds 5 = .ok (.iconst 0, 1) := dk_3 (dk_at dksX4_rounds_0 5 rfl rfl)
theorem dX4_rounds_6 : decode cX4_rounds 6 = .ok (.istore_n 3, 1) := dk_62 (dk_at dksX4_rounds_0 6 rfl rfl)
theorem dX4_rounds_7 : decode cX4_rounds 7 = .ok (.iload_n 2, 1) := dk_28 (dk_at dksX4_rounds_0 7 rfl rfl)
theorem dX4_rounds_8 : decode cX4_rounds 8 = .ok (.iconst 2, 1) := dk_5 (dk_at dksX4_rounds_0 8 rfl rfl)
theorem dX4_rounds_9 : decode cX4_rounds 9 = .ok (.aload_n 0, 1) := dk_42 (dk_at dksX4_rounds_0 9 rfl rfl)
theorem dX4_rounds_10 : decode cX4_rounds 10 = .ok (.iload_n 1, 1) := dk_27 (dk_at dksX4_rounds_0 10 rfl rfl)
theorem dX4_rounds_11 : decode cX4_rounds 11 = .ok (.invokevirtual 71, 3) := dk_182 0 71 (dk_at dksX4_rounds_0 11 rfl rfl)
theorem dX4_rounds_14 : decode cX4_rounds 14 = .ok (.imul, 1) := dk_104 (dk_at dksX4_rounds_0 14 rfl rfl)
theorem dX4_rounds_15 : decode cX4_rounds 15 = .ok (.iadd, 1) := dk_96 (dk_at dksX4_rounds_0 15 rfl rfl)
theorem dX4_rounds_16 : decode cX4_rounds 16 = .ok (.bipush 100, 2) := dk_16 100 (dk_at dksX4_rounds_0 16 rfl rfl)
theorem dX4_rounds_18 : decode cX4_rounds 18 = .ok (.if_icmp .gt 19, 3) := dk_163 0 19 (dk_at dksX4_rounds_0 18 rfl rfl)
theorem dX4_rounds_21 : decode cX4_rounds 21 = .ok (.iload_n 2, 1) := dk_28 (dk_at dksX4_rounds_0 21 rfl rfl)
theorem dX4_rounds_22 : decode cX4_rounds 22 = .ok (.iconst 2, 1) := dk_5 (dk_at dksX4_rounds_0 22 rfl rfl)
theorem dX4_rounds_23 : decode cX4_rounds 23 = .ok (.aload_n 0, 1) := dk_42 (dk_at dksX4_rounds_0 23 rfl rfl)
theorem dX4_rounds_24 : decode cX4_rounds 24 = .ok (.iload_n 1, 1) := dk_27 (dk_at dksX4_rounds_1 0 rfl rfl)
theorem dX4_rounds_25 : decode cX4_rounds 25 = .ok (.invokevirtual 71, 3) := dk_182 0 71 (dk_at dksX4_rounds_1 1 rfl rfl)
theorem dX4_rounds_28 : decode cX4_rounds 28 = .ok (.imul, 1) := dk_104 (dk_at dksX4_rounds_1 4 rfl rfl)
theorem dX4_rounds_29 : decode cX4_rounds 29 = .ok (.iadd, 1) := dk_96 (dk_at dksX4_rounds_1 5 rfl rfl)
theorem dX4_rounds_30 : decode cX4_rounds 30 = .ok (.istore_n 2, 1) := dk_61 (dk_at dksX4_rounds_1 6 rfl rfl)
theorem dX4_rounds_31 : decode cX4_rounds 31 = .ok (.iinc 3 1, 3) := dk_132 3 1 (dk_at dksX4_rounds_1 7 rfl rfl)
theorem dX4_rounds_34 : decode cX4_rounds 34 = .ok (.goto (-27), 3) := dk_167 255 229 (dk_at dksX4_rounds_1 10 rfl rfl)
theorem dX4_rounds_37 : decode cX4_rounds 37 = .ok (.iload_n 3, 1) := dk_29 (dk_at dksX4_rounds_1 13 rfl rfl)
theorem dX4_rounds_38 : decode cX4_rounds 38 = .ok (.ireturn, 1) := dk_172 (dk_at dksX4_rounds_1 14 rfl rfl)
abbrev cX4_roundsAgain : ByteArray := prog_9_method_10_code
def yX4_roundsAgain : MethodName := ⟨RX4, "roundsAgain", "(I)I"⟩
def dkwX4_roundsAgain_0 : List UInt8 := [16, 100, 42, 180, 0, 25, 100, 5, 42, 27, 182, 0, 71, 104, 108, 172]
abbrev dktX4_roundsAgain_0 : List UInt8 := dkwX4_roundsAgain_0 ++ []
theorem dksX4_roundsAgain_0 : cX4_roundsAgain.data.toList.drop 0 = dktX4_roundsAgain_0 := by decide +kernel
theorem dX4_roundsAgain_0 : decode cX4_roundsAgain 0 = .ok (.bipush 100, 2) := dk_16 100 (dk_at dksX4_roundsAgain_0 0 rfl rfl)
theorem dX4_roundsAgain_2 : decode cX4_roundsAgain 2 = .ok (.aload_n 0, 1) := dk_42 (dk_at dksX4_roundsAgain_0 2 rfl rfl)
theorem dX4_roundsAgain_3 : decode cX4_roundsAgain 3 = .ok (.getfield 25, 3) := dk_180 0 25 (dk_at dksX4_roundsAgain_0 3 rfl rfl)
theorem dX4_roundsAgain_6 : decode cX4_roundsAgain 6 = .ok (.isub, 1) := dk_100 (dk_at dksX4_roundsAgain_0 6 rfl rfl)
theorem dX4_roundsAgain_7 : decode cX4_roundsAgain 7 = .ok (.iconst 2, 1) := dk_5 (dk_at dksX4_roundsAgain_0 7 rfl rfl)
theorem dX4_roundsAgain_8 : decode cX4_roundsAgain 8 = .ok (.aload_n 0, 1) := dk_42 (dk_at dksX4_roundsAgain_0 8 rfl rfl)
theorem dX4_roundsAgain_9 : decode cX4_roundsAgain 9 = .ok (.iload_n 1, 1) := dk_27 (dk_at dksX4_roundsAgain_0 9 rfl rfl)
theorem dX4_roundsAgain_10 : decode cX4_roundsAgain 10 = .ok (.invokevirtual 71, 3) := dk_182 0 71 (dk_at dksX4_roundsAgain_0 10 rfl rfl)
theorem dX4_roundsAgain_13 : decode cX4_roundsAgain 13 = .ok (.imul, 1) := dk_104 (dk_at dksX4_roundsAgain_0 13 rfl rfl)
theorem dX4_roundsAgain_14 : decode cX4_roundsAgain 14 = .ok (.idiv, 1) := dk_108 (dk_at dksX4_roundsAgain_0 14 rfl rfl)
theorem dX4_roundsAgain_15 : decode cX4_roundsAgain 15 = .ok (.ireturn, 1) := dk_172 (dk_at dksX4_roundsAgain_0 15 rfl rfl)
abbrev cX4_text : ByteArray := prog_9_method_4_code
def yX4_text : MethodName := ⟨RX4, "text", "()Ljava/lang/String;"⟩
def dkwX4_text_3 : List UInt8 := [182, 0, 52, 182, 0, 63, 176]
abbrev dktX4_text_3 : List UInt8 := dkwX4_text_3 ++ []
def dkwX4_text_2 : List UInt8 := [18, 59, 182, 0, 48, 42, 180, 0, 9, 5, 46, 182, 0, 52, 18, 61, 182, 0, 48, 42, 180, 0, 25]
abbrev dktX4_text_2 : List UInt8 := dkwX4_text_2 ++ dktX4_text_3
def dkwX4_text_1 : List UInt8 := [42, 180, 0, 9, 3, 46, 182, 0, 52, 18, 57, 182, 0, 48, 42, 180, 0, 9, 4, 46, 182, 0, 52]
abbrev dktX4_text_1 : List UInt8 := dkwX4_text_1 ++ dktX4_text_2
def dkwX4_text_0 : List UInt8 := [187, 0, 43, 89, 183, 0, 45, 18, 46, 182, 0, 48, 42, 180, 0, 22, 182, 0, 52, 18, 55, 182, 0, 48]
abbrev dktX4_text_0 : List UInt8 := dkwX4_text_0 ++ dktX4_text_1
theorem dksX4_text_0 : cX4_text.data.toList.drop 0 = dktX4_text_0 := by decide +kernel
theorem dksX4_text_1 : cX4_text.data.toList.drop 24 = dktX4_text_1 := dk_seg dksX4_text_0 24 rfl rfl
theorem dksX4_text_2 : cX4_text.data.toList.drop 47 = dktX4_text_2 := dk_seg dksX4_text_1 23 rfl rfl
theorem dksX4_text_3 : cX4_text.data.toList.drop 70 = dktX4_text_3 := dk_seg dksX4_text_2 23 rfl rfl
theorem dX4_text_0 : decode cX4_text 0 = .ok (.new 43, 3) := dk_187 0 43 (dk_at dksX4_text_0 0 rfl rfl)
theorem dX4_text_3 : decode cX4_text 3 = .ok (.dup, 1) := dk_89 (dk_at dksX4_text_0 3 rfl rfl)
theorem dX4_text_4 : decode cX4_text 4 = .ok (.invokespecial 45, 3) := dk_183 0 45 (dk_at dksX4_text_0 4 rfl rfl)
theorem dX4_text_7 : decode cX4_text 7 = .ok (.ldc 46, 2) := dk_18 46 (dk_at dksX4_text_0 7 rfl rfl)
theorem dX4_text_9 : decode cX4_text 9 = .ok (.invokevirtual 48, 3) := dk_182 0 48 (dk_at dksX4_text_0 9 rfl rfl)
theorem dX4_text_12 : decode cX4_text 12 = .ok (.aload_n 0, 1) := dk_42 (dk_at dksX4_text_0 12 rfl rfl)
theorem dX4_text_13 : decode cX4_text 13 = .ok (.getfield 22, 3) := dk_180 0 22 (dk_at dksX4_text_0 13 rfl rfl)
theorem dX4_text_16 : decode cX4_text 16 = .ok (.invokevirtual 52, 3) := dk_182 0 52 (dk_at dksX4_text_0 16 rfl rfl)
theorem dX4_text_19 : decode cX4_text 19 = .ok (.ldc 55, 2) := dk_18 55 (dk_at dksX4_text_0 19 rfl rfl)
theorem dX4_text_21 : decode cX4_text 21 = .ok (.invokevirtual 48, 3) := dk_182 0 48 (dk_at dksX4_text_0 21 rfl rfl)
theorem dX4_text_24 : decode cX4_text 24 = .ok (.aload_n 0, 1) := dk_42 (dk_at dksX4_text_1 0 rfl rfl)
theorem dX4_text_25 : decode cX4_text 25 = .ok (.getfield 9, 3) := dk_180 0 9 (dk_at dksX4_text_1 1 rfl rfl)
theorem dX4_text_28 : decode cX4_text 28 = .ok (.iconst 0, 1) := dk_3 (dk_at dksX4_text_1 4 rfl rfl)
theorem dX4_text_29 : decode cX4_text 29 = .ok (.iaload, 1) := dk_46 (dk_at dksX4_text_1 5 rfl rfl)
theorem dX4_text_30 : decode cX4_text 30 = .ok (.invokevirtual 52, 3) := dk_182 0 52 (dk_at dksX4_text_1 6 rfl rfl)
theorem dX4_text_33 : decode cX4_text 33 = .ok (.ldc 57, 2) := dk_18 57 (dk_at dksX4_text_1 9 rfl rfl)
theorem dX4_text_35 : decode cX4_text 35 = .ok (.invokevirtual 48, 3) := dk_182 0 48 (dk_at dksX4_text_1 11 rfl rfl)
theorem dX4_text_38 : decode cX4_text 38 = .ok (.aload_n 0, 1) := dk_42 (dk_at dksX4_text_1 14 rfl rfl)
theorem dX4_text_39 : decode cX4_text 39 = .ok (.getfield 9, 3) := dk_180 0 9 (dk_at dksX4_text_1 15 rfl rfl)
theorem dX4_text_42 : decode cX4_text 42 = .ok (.iconst 1, 1) := dk_4 (dk_at dksX4_text_1 18 rfl rfl)
theorem dX4_text_43 : decode cX4_text 43 = .ok (.iaload, 1) := dk_46 (dk_at dksX4_text_1 19 rfl rfl)
theorem dX4_text_44 : decode cX4_text 44 = .ok (.invokevirtual 52, 3) := dk_182 0 52 (dk_at dksX4_text_1 20 rfl rfl)
theorem dX4_text_47 : decode cX4_text 47 = .ok (.ldc 59, 2) := dk_18 59 (dk_at dksX4_text_2 0 rfl rfl)
theorem dX4_text_49 : decode cX4_text 49 = .ok (.invokevirtual 48, 3) := dk_182 0 48 (dk_at dksX4_text_2 2 rfl rfl)
theorem dX4_text_52 : decode cX4_text 52 = .ok (.aload_n 0, 1) := dk_42 (dk_at dksX4_text_2 5 rfl rfl)
theorem dX4_text_53 : decode cX4_text 53 = .ok (.getfield 9, 3) := dk_180 0 9 (dk_at dksX4_text_2 6 rfl rfl)
theorem dX4_text_56 : decode cX4_text 56 = .ok (.iconst 2, 1) := dk_5 (dk_at dksX4_text_2 9 rfl rfl)
theorem dX4_text_57 : decode cX4_text 57 = .ok (.iaload, 1) := dk_46 (dk_at dksX4_text_2 10 rfl rfl)
theorem dX4_text_58 : decode cX4_text 58 = .ok (.invokevirtual 52, 3) := dk_182 0 52 (dk_at dksX4_text_2 11 rfl rfl)
theorem dX4_text_61 : decode cX4_text 61 = .ok (.ldc 61, 2) := dk_18 61 (dk_at dksX4_text_2 14 rfl rfl)
theorem dX4_text_63 : decode cX4_text 63 = .ok (.invokevirtual 48, 3) := dk_182 0 48 (dk_at dksX4_text_2 16 rfl rfl)
theorem dX4_text_66 : decode cX4_text 66 = .ok (.aload_n 0, 1) := dk_42 (dk_at dksX4_text_2 19 rfl rfl)
theorem dX4_text_67 : decode cX4_text 67 = .ok (.getfield 25, 3) := dk_180 0 25 (dk_at dksX4_text_2 20 rfl rfl)
theorem dX4_text_70 : decode cX4_text 70 = .ok (.invokevirtual 52, 3) := dk_182 0 52 (dk_at dksX4_text_3 0 rfl rfl)
theorem dX4_text_73 : decode cX4_text 73 = .ok (.invokevirtual 63, 3) := dk_182 0 63 (dk_at dksX4_text_3 3 rfl rfl)
theorem dX4_text_76 : decode cX4_text 76 = .ok (.areturn, 1) := dk_176 (dk_at dksX4_text_3 6 rfl rfl)
abbrev cX4_all : ByteArray := prog_9_method_5_code
def yX4_all : MethodName := ⟨RX4, "all", "()I"⟩
def dkwX4_all_0 : List UInt8 := [42, 180, 0, 9, 3, 46, 42, 180, 0, 9, 4, 46, 96, 42, 180, 0, 9, 5, 46, 96, 172]
abbrev dktX4_all_0 : List UInt8 := dkwX4_all_0 ++ []
theorem dksX4_all_0 : cX4_all.data.toList.drop 0 = dktX4_all_0 := by decide +kernel
theorem dX4_all_0 : decode cX4_all 0 = .ok (.aload_n 0, 1) := dk_42 (dk_at dksX4_all_0 0 rfl rfl)
theorem dX4_all_1 : decode cX4_all 1 = .ok (.getfield 9, 3) := dk_180 0 9 (dk_at dksX4_all_0 1 rfl rfl)
theorem dX4_all_4 : decode cX4_all 4 = .ok (.iconst 0, 1) := dk_3 (dk_at dksX4_all_0 4 rfl rfl)
theorem dX4_all_5 : decode cX4_all 5 = .ok (.iaload, 1) := dk_46 (dk_at dksX4_all_0 5 rfl rfl)
theorem dX4_all_6 : decode cX4_all 6 = .ok (.aload_n 0, 1) := dk_42 (dk_at dksX4_all_0 6 rfl rfl)
theorem dX4_all_7 : decode cX4_all 7 = .ok (.getfield 9, 3) := dk_180 0 9 (dk_at dksX4_all_0 7 rfl rfl)
theorem dX4_all_10 : decode cX4_all 10 = .ok (.iconst 1, 1) := dk_4 (dk_at dksX4_all_0 10 rfl rfl)
theorem dX4_all_11 : decode cX4_all 11 = .ok (.iaload, 1) := dk_46 (dk_at dksX4_all_0 11 rfl rfl)
theorem dX4_all_12 : decode cX4_all 12 = .ok (.iadd, 1) := dk_96 (dk_at dksX4_all_0 12 rfl rfl)
theorem dX4_all_13 : decode cX4_all 13 = .ok (.aload_n 0, 1) := dk_42 (dk_at dksX4_all_0 13 rfl rfl)
theorem dX4_all_14 : decode cX4_all 14 = .ok (.getfield 9, 3) := dk_180 0 9 (dk_at dksX4_all_0 14 rfl rfl)
theorem dX4_all_17 : decode cX4_all 17 = .ok (.iconst 2, 1) := dk_5 (dk_at dksX4_all_0 17 rfl rfl)
theorem dX4_all_18 : decode cX4_all 18 = .ok (.iaload, 1) := dk_46 (dk_at dksX4_all_0 18 rfl rfl)
theorem dX4_all_19 : decode cX4_all 19 = .ok (.iadd, 1) := dk_96 (dk_at dksX4_all_0 19 rfl rfl)
theorem dX4_all_20 : decode cX4_all 20 = .ok (.ireturn, 1) := dk_172 (dk_at dksX4_all_0 20 rfl rfl)
theorem q91 : (Jvm.Cond.initialized "BrushSellers$Seller") ∈ lw_all := lw_g (lw_at lw_m1 28 rfl) rfl
theorem q267 : (Jvm.Cond.selects "BrushSellers$Seller" ({ cls := "java/lang/Object", name := "getClass", desc := "()Ljava/lang/Class;" } : Jvm.MethodName) ({ cls := "java/lang/Object", name := "getClass", desc := "()Ljava/lang/Class;" } : Jvm.MethodName)) ∈ lw_all := lw_g (lw_at lw_m1 204 rfl) rfl
theorem q864 : (Jvm.Cond.instanceMethod ({ cls := "BrushSellers$Seller", name := "copy", desc := "()LBrushSellers$Seller;" } : Jvm.MethodName)) ∈ lw_all := lw_g (lw_at lw_m4 81 rfl) rfl
theorem q865 : (Jvm.Cond.selects "BrushSellers$Seller" ({ cls := "BrushSellers$Seller", name := "copy", desc := "()LBrushSellers$Seller;" } : Jvm.MethodName) ({ cls := "BrushSellers$Seller", name := "copy", desc := "()LBrushSellers$Seller;" } : Jvm.MethodName)) ∈ lw_all := lw_g (lw_at lw_m4 82 rfl) rfl
theorem q866 : (Jvm.Cond.code ({ cls := "BrushSellers$Seller", name := "copy", desc := "()LBrushSellers$Seller;" } : Jvm.MethodName) prog_9_method_2_code (2 : Nat) (Option.some (Jvm.ClassFile.FieldType.object "BrushSellers$Seller"))) ∈ lw_all := lw_g (lw_at lw_m4 83 rfl) rfl
theorem q867 : (Jvm.Cond.classLink "BrushSellers$Seller" (10 : Nat) "BrushSellers$Seller") ∈ lw_all := lw_g (lw_at lw_m4 84 rfl) rfl
theorem q868 : (Jvm.Cond.instantiable "BrushSellers$Seller" (7 : Nat)) ∈ lw_all := lw_g (lw_at lw_m4 85 rfl) rfl
theorem q869 : (Jvm.Cond.methodLink "BrushSellers$Seller" (19 : Nat) ({ cls := "BrushSellers$Seller", name := "<init>", desc := "(I)V" } : Jvm.MethodName)) ∈ lw_all := lw_g (lw_at lw_m4 86 rfl) rfl
theorem q870 : (Jvm.Cond.instanceMethod ({ cls := "BrushSellers$Seller", name := "<init>", desc := "(I)V" } : Jvm.MethodName)) ∈ lw_all := lw_g (lw_at lw_m4 87 rfl) rfl
theorem q871 : (Jvm.Cond.code ({ cls := "BrushSellers$Seller", name := "<init>", desc := "(I)V" } : Jvm.MethodName) prog_9_method_1_code (2 : Nat) (Option.none : Option Jvm.ClassFile.FieldType)) ∈ lw_all := lw_g (lw_at lw_m4 88 rfl) rfl
theorem q872 : (Jvm.Cond.methodLink "BrushSellers$Seller" (3 : Nat) ({ cls := "java/lang/Object", name := "<init>", desc := "()V" } : Jvm.MethodName)) ∈ lw_all := lw_g (lw_at lw_m4 89 rfl) rfl
theorem q873 : (Jvm.Cond.fieldLink "BrushSellers$Seller" (15 : Nat) "BrushSellers$Seller" "charm" "I") ∈ lw_all := lw_g (lw_at lw_m4 90 rfl) rfl
theorem q875 : (Jvm.Cond.fieldLink "BrushSellers$Seller" (22 : Nat) "BrushSellers$Seller" "house" "I") ∈ lw_all := lw_g (lw_at lw_m4 92 rfl) rfl
theorem q877 : (Jvm.Cond.fieldLink "BrushSellers$Seller" (25 : Nat) "BrushSellers$Seller" "worn" "I") ∈ lw_all := lw_g (lw_at lw_m4 94 rfl) rfl
theorem q879 : (Jvm.Cond.fieldLink "BrushSellers$Seller" (9 : Nat) "BrushSellers$Seller" "brushes" "[I") ∈ lw_all := lw_g (lw_at lw_m4 96 rfl) rfl
theorem q881 : (Jvm.Cond.fieldLink "BrushSellers$Seller" (34 : Nat) "BrushSellers$Seller" "sold" "I") ∈ lw_all := lw_g (lw_at lw_m4 98 rfl) rfl
theorem q883 : (Jvm.Cond.fieldLink "BrushSellers$Seller" (37 : Nat) "BrushSellers$Seller" "back" "I") ∈ lw_all := lw_g (lw_at lw_m4 100 rfl) rfl
theorem q885 : (Jvm.Cond.fieldLink "BrushSellers$Seller" (40 : Nat) "BrushSellers$Seller" "gone" "I") ∈ lw_all := lw_g (lw_at lw_m4 102 rfl) rfl
theorem q886 : (Jvm.Cond.laysFinal "BrushSellers$Seller" "BrushSellers$Seller" "charm" "I") ∈ lw_all := lw_g (lw_at lw_m4 103 rfl) rfl
theorem q887 : (Jvm.Cond.soleField "BrushSellers$Seller" "charm") ∈ lw_all := lw_g (lw_at lw_m4 104 rfl) rfl
theorem q888 : (Jvm.Cond.lays "BrushSellers$Seller" "BrushSellers$Seller" "house" "I") ∈ lw_all := lw_g (lw_at lw_m4 105 rfl) rfl
theorem q889 : (Jvm.Cond.soleField "BrushSellers$Seller" "house") ∈ lw_all := lw_g (lw_at lw_m4 106 rfl) rfl
theorem q890 : (Jvm.Cond.lays "BrushSellers$Seller" "BrushSellers$Seller" "worn" "I") ∈ lw_all := lw_g (lw_at lw_m4 107 rfl) rfl
theorem q891 : (Jvm.Cond.soleField "BrushSellers$Seller" "worn") ∈ lw_all := lw_g (lw_at lw_m4 108 rfl) rfl
theorem q892 : (Jvm.Cond.laysFinal "BrushSellers$Seller" "BrushSellers$Seller" "brushes" "[I") ∈ lw_all := lw_g (lw_at lw_m4 109 rfl) rfl
theorem q893 : (Jvm.Cond.soleField "BrushSellers$Seller" "brushes") ∈ lw_all := lw_g (lw_at lw_m4 110 rfl) rfl
theorem q894 : (Jvm.Cond.lays "BrushSellers$Seller" "BrushSellers$Seller" "sold" "I") ∈ lw_all := lw_g (lw_at lw_m4 111 rfl) rfl
theorem q895 : (Jvm.Cond.soleField "BrushSellers$Seller" "sold") ∈ lw_all := lw_g (lw_at lw_m4 112 rfl) rfl
theorem q896 : (Jvm.Cond.lays "BrushSellers$Seller" "BrushSellers$Seller" "back" "I") ∈ lw_all := lw_g (lw_at lw_m4 113 rfl) rfl
theorem q897 : (Jvm.Cond.soleField "BrushSellers$Seller" "back") ∈ lw_all := lw_g (lw_at lw_m4 114 rfl) rfl
theorem q898 : (Jvm.Cond.lays "BrushSellers$Seller" "BrushSellers$Seller" "gone" "I") ∈ lw_all := lw_g (lw_at lw_m4 115 rfl) rfl
theorem q899 : (Jvm.Cond.soleField "BrushSellers$Seller" "gone") ∈ lw_all := lw_g (lw_at lw_m4 116 rfl) rfl
theorem q900 : (Jvm.Cond.superclass "BrushSellers$Seller" "java/lang/Object") ∈ lw_all := lw_g (lw_at lw_m4 117 rfl) rfl
theorem q901 : (Jvm.Cond.methodLink "BrushSellers$Seller" (28 : Nat) ({ cls := "java/lang/System", name := "arraycopy", desc := "(Ljava/lang/Object;ILjava/lang/Object;II)V" } : Jvm.MethodName)) ∈ lw_all := lw_g (lw_at lw_m4 118 rfl) rfl
theorem q1177 : (Jvm.Cond.unhidden "BrushSellers$Seller" "isAt" "(I)Z") ∈ lw_tbl := lw_at lw_m5 154 rfl
theorem q1191 : (Jvm.Cond.castable "BrushSellers$Seller" "BrushSellers$Placed") ∈ lw_tbl := lw_at lw_m5 168 rfl
theorem q1192 : (Jvm.Cond.selects "BrushSellers$Seller" ({ cls := "BrushSellers$Placed", name := "house", desc := "()I" } : Jvm.MethodName) ({ cls := "BrushSellers$Seller", name := "house", desc := "()I" } : Jvm.MethodName)) ∈ lw_all := lw_g (lw_at lw_m5 169 rfl) rfl
theorem q1193 : (Jvm.Cond.unhidden "BrushSellers$Seller" "house" "()I") ∈ lw_tbl := lw_at lw_m5 170 rfl
theorem q1194 : (Jvm.Cond.instanceMethod ({ cls := "BrushSellers$Seller", name := "house", desc := "()I" } : Jvm.MethodName)) ∈ lw_all := lw_g (lw_at lw_m5 171 rfl) rfl
theorem q1195 : (Jvm.Cond.publicMethod ({ cls := "BrushSellers$Seller", name := "house", desc := "()I" } : Jvm.MethodName)) ∈ lw_tbl := lw_at lw_m5 172 rfl
theorem q1196 : (Jvm.Cond.code ({ cls := "BrushSellers$Seller", name := "house", desc := "()I" } : Jvm.MethodName) prog_9_method_3_code (1 : Nat) (Option.some Jvm.ClassFile.FieldType.int)) ∈ lw_all := lw_g (lw_at lw_m5 173 rfl) rfl
theorem q1201 : (Jvm.Cond.instanceMethod ({ cls := "BrushSellers$Seller", name := "room", desc := "(I)I" } : Jvm.MethodName)) ∈ lw_all := lw_g (lw_at lw_m5 178 rfl) rfl
theorem q1202 : (Jvm.Cond.selects "BrushSellers$Seller" ({ cls := "BrushSellers$Seller", name := "room", desc := "(I)I" } : Jvm.MethodName) ({ cls := "BrushSellers$Seller", name := "room", desc := "(I)I" } : Jvm.MethodName)) ∈ lw_all := lw_g (lw_at lw_m5 179 rfl) rfl
theorem q1203 : (Jvm.Cond.code ({ cls := "BrushSellers$Seller", name := "room", desc := "(I)I" } : Jvm.MethodName) prog_9_method_6_code (2 : Nat) (Option.some Jvm.ClassFile.FieldType.int)) ∈ lw_all := lw_g (lw_at lw_m5 180 rfl) rfl
theorem q1214 : (Jvm.Cond.instanceMethod ({ cls := "BrushSellers$Seller", name := "value", desc := "(I)I" } : Jvm.MethodName)) ∈ lw_all := lw_g (lw_at lw_m5 191 rfl) rfl
theorem q1215 : (Jvm.Cond.selects "BrushSellers$Seller" ({ cls := "BrushSellers$Seller", name := "value", desc := "(I)I" } : Jvm.MethodName) ({ cls := "BrushSellers$Seller", name := "value", desc := "(I)I" } : Jvm.MethodName)) ∈ lw_all := lw_g (lw_at lw_m5 192 rfl) rfl
theorem q1216 : (Jvm.Cond.code ({ cls := "BrushSellers$Seller", name := "value", desc := "(I)I" } : Jvm.MethodName) prog_9_method_11_code (2 : Nat) (Option.some Jvm.ClassFile.FieldType.int)) ∈ lw_all := lw_g (lw_at lw_m5 193 rfl) rfl
theorem q1259 : (Jvm.Cond.unhidden "BrushSellers$Seller" "houses" "(I)I") ∈ lw_tbl := lw_at lw_m5 236 rfl
theorem q1270 : (Jvm.Cond.instanceMethod ({ cls := "BrushSellers$Seller", name := "checkSoles", desc := "(I)V" } : Jvm.MethodName)) ∈ lw_all := lw_g (lw_at lw_m6 7 rfl) rfl
theorem q1271 : (Jvm.Cond.selects "BrushSellers$Seller" ({ cls := "BrushSellers$Seller", name := "checkSoles", desc := "(I)V" } : Jvm.MethodName) ({ cls := "BrushSellers$Seller", name := "checkSoles", desc := "(I)V" } : Jvm.MethodName)) ∈ lw_all := lw_g (lw_at lw_m6 8 rfl) rfl
theorem q1272 : (Jvm.Cond.code ({ cls := "BrushSellers$Seller", name := "checkSoles", desc := "(I)V" } : Jvm.MethodName) prog_9_method_7_code (2 : Nat) (Option.none : Option Jvm.ClassFile.FieldType)) ∈ lw_all := lw_g (lw_at lw_m6 9 rfl) rfl
theorem q1273 : (Jvm.Cond.methodLinkNest "BrushSellers$Seller" (67 : Nat) ({ cls := "BrushSellers", name := "refuse", desc := "(ZII)V" } : Jvm.MethodName) "BrushSellers") ∈ lw_tbl := lw_at lw_m6 10 rfl
theorem q1279 : (Jvm.Cond.instanceMethod ({ cls := "BrushSellers$Seller", name := "goesTo", desc := "(I)V" } : Jvm.MethodName)) ∈ lw_all := lw_g (lw_at lw_m6 16 rfl) rfl
theorem q1280 : (Jvm.Cond.selects "BrushSellers$Seller" ({ cls := "BrushSellers$Seller", name := "goesTo", desc := "(I)V" } : Jvm.MethodName) ({ cls := "BrushSellers$Seller", name := "goesTo", desc := "(I)V" } : Jvm.MethodName)) ∈ lw_all := lw_g (lw_at lw_m6 17 rfl) rfl
theorem q1281 : (Jvm.Cond.code ({ cls := "BrushSellers$Seller", name := "goesTo", desc := "(I)V" } : Jvm.MethodName) prog_9_method_8_code (3 : Nat) (Option.none : Option Jvm.ClassFile.FieldType)) ∈ lw_all := lw_g (lw_at lw_m6 18 rfl) rfl
theorem q1308 : (Jvm.Cond.instanceMethod ({ cls := "BrushSellers$Seller", name := "rounds", desc := "(I)I" } : Jvm.MethodName)) ∈ lw_all := lw_g (lw_at lw_m6 45 rfl) rfl
theorem q1309 : (Jvm.Cond.selects "BrushSellers$Seller" ({ cls := "BrushSellers$Seller", name := "rounds", desc := "(I)I" } : Jvm.MethodName) ({ cls := "BrushSellers$Seller", name := "rounds", desc := "(I)I" } : Jvm.MethodName)) ∈ lw_all := lw_g (lw_at lw_m6 46 rfl) rfl
theorem q1310 : (Jvm.Cond.code ({ cls := "BrushSellers$Seller", name := "rounds", desc := "(I)I" } : Jvm.MethodName) prog_9_method_9_code (4 : Nat) (Option.some Jvm.ClassFile.FieldType.int)) ∈ lw_all := lw_g (lw_at lw_m6 47 rfl) rfl
theorem q1316 : (Jvm.Cond.instanceMethod ({ cls := "BrushSellers$Seller", name := "roundsAgain", desc := "(I)I" } : Jvm.MethodName)) ∈ lw_all := lw_g (lw_at lw_m6 53 rfl) rfl
theorem q1317 : (Jvm.Cond.selects "BrushSellers$Seller" ({ cls := "BrushSellers$Seller", name := "roundsAgain", desc := "(I)I" } : Jvm.MethodName) ({ cls := "BrushSellers$Seller", name := "roundsAgain", desc := "(I)I" } : Jvm.MethodName)) ∈ lw_all := lw_g (lw_at lw_m6 54 rfl) rfl
theorem q1318 : (Jvm.Cond.code ({ cls := "BrushSellers$Seller", name := "roundsAgain", desc := "(I)I" } : Jvm.MethodName) prog_9_method_10_code (2 : Nat) (Option.some Jvm.ClassFile.FieldType.int)) ∈ lw_all := lw_g (lw_at lw_m6 55 rfl) rfl
theorem q1726 : (Jvm.Cond.instanceMethod ({ cls := "BrushSellers$Seller", name := "text", desc := "()Ljava/lang/String;" } : Jvm.MethodName)) ∈ lw_all := lw_g (lw_at lw_m7 223 rfl) rfl
theorem q1727 : (Jvm.Cond.selects "BrushSellers$Seller" ({ cls := "BrushSellers$Seller", name := "text", desc := "()Ljava/lang/String;" } : Jvm.MethodName) ({ cls := "BrushSellers$Seller", name := "text", desc := "()Ljava/lang/String;" } : Jvm.MethodName)) ∈ lw_all := lw_g (lw_at lw_m7 224 rfl) rfl
theorem q1728 : (Jvm.Cond.code ({ cls := "BrushSellers$Seller", name := "text", desc := "()Ljava/lang/String;" } : Jvm.MethodName) prog_9_method_4_code (1 : Nat) (Option.some (Jvm.ClassFile.FieldType.object "java/lang/String"))) ∈ lw_all := lw_g (lw_at lw_m7 225 rfl) rfl
theorem q1729 : (Jvm.Cond.classLink "BrushSellers$Seller" (43 : Nat) "java/lang/StringBuilder") ∈ lw_all := lw_g (lw_at lw_m7 226 rfl) rfl
theorem q1730 : (Jvm.Cond.methodLink "BrushSellers$Seller" (45 : Nat) ({ cls := "java/lang/StringBuilder", name := "<init>", desc := "()V" } : Jvm.MethodName)) ∈ lw_all := lw_g (lw_at lw_m7 227 rfl) rfl
theorem q1731 : (Jvm.Cond.stringRef "BrushSellers$Seller" (46 : Nat) "@") ∈ lw_tbl := lw_at lw_m7 228 rfl
theorem q1732 : (Jvm.Cond.methodLink "BrushSellers$Seller" (48 : Nat) ({ cls := "java/lang/StringBuilder", name := "append", desc := "(Ljava/lang/String;)Ljava/lang/StringBuilder;" } : Jvm.MethodName)) ∈ lw_all := lw_g (lw_at lw_m7 229 rfl) rfl
theorem q1733 : (Jvm.Cond.methodLink "BrushSellers$Seller" (52 : Nat) ({ cls := "java/lang/StringBuilder", name := "append", desc := "(I)Ljava/lang/StringBuilder;" } : Jvm.MethodName)) ∈ lw_all := lw_g (lw_at lw_m7 230 rfl) rfl
theorem q1758 : (Jvm.Cond.stringRef "BrushSellers$Seller" (55 : Nat) " h") ∈ lw_tbl := lw_at lw_m8 15 rfl
theorem q1759 : (Jvm.Cond.stringRef "BrushSellers$Seller" (57 : Nat) " o") ∈ lw_tbl := lw_at lw_m8 16 rfl
theorem q1760 : (Jvm.Cond.stringRef "BrushSellers$Seller" (59 : Nat) " w") ∈ lw_tbl := lw_at lw_m8 17 rfl
theorem q1761 : (Jvm.Cond.stringRef "BrushSellers$Seller" (61 : Nat) " ~") ∈ lw_tbl := lw_at lw_m8 18 rfl
theorem q1762 : (Jvm.Cond.methodLink "BrushSellers$Seller" (63 : Nat) ({ cls := "java/lang/StringBuilder", name := "toString", desc := "()Ljava/lang/String;" } : Jvm.MethodName)) ∈ lw_all := lw_g (lw_at lw_m8 19 rfl) rfl
theorem q1813 : (Jvm.Cond.instanceMethod ({ cls := "BrushSellers$Seller", name := "all", desc := "()I" } : Jvm.MethodName)) ∈ lw_all := lw_g (lw_at lw_m8 70 rfl) rfl
theorem q1814 : (Jvm.Cond.selects "BrushSellers$Seller" ({ cls := "BrushSellers$Seller", name := "all", desc := "()I" } : Jvm.MethodName) ({ cls := "BrushSellers$Seller", name := "all", desc := "()I" } : Jvm.MethodName)) ∈ lw_all := lw_g (lw_at lw_m8 71 rfl) rfl
theorem q1815 : (Jvm.Cond.code ({ cls := "BrushSellers$Seller", name := "all", desc := "()I" } : Jvm.MethodName) prog_9_method_5_code (1 : Nat) (Option.some Jvm.ClassFile.FieldType.int)) ∈ lw_all := lw_g (lw_at lw_m8 72 rfl) rfl
theorem q2263 : (Jvm.Cond.castable "BrushSellers$Seller" "java/lang/Object") ∈ lw_tbl := lw_at lw_m10 40 rfl
theorem in_X4 : ∀ w ∈ wsX40, w ∈ lw_all := lw_in wsX40 [886, 888, 890, 892, 894, 896, 898] (by decide +kernel) (by decide +kernel)

/-! BrushSellers$Sale -/
set_option maxRecDepth 100000
def RX5 : String := "BrushSellers$Sale"
def TX5 : u_T := fun k => match k with
  | 0 => ("BrushSellers$Sale", "seller", "I", true)
  | 1 => ("BrushSellers$Sale", "house", "I", true)
  | 2 => ("BrushSellers$Sale", "bristle", "I", true)
  | 3 => ("BrushSellers$Sale", "brushes", "I", true)
  | 4 => ("BrushSellers$Sale", "price", "I", true)
  | 5 => ("BrushSellers$Sale", "day", "I", true)
  | _ => ("BrushSellers$Sale", "isBack", "Z", false)
def tyX5 : Nat → FieldType := fun k => match k with
  | 0 => .int
  | 1 => .int
  | 2 => .int
  | 3 => .int
  | 4 => .int
  | 5 => .int
  | _ => .boolean
abbrev wsX50 : List Cond := u_ws RX5 TX5 7
theorem nmX5 : ∀ a, a < 7 → ∀ b, b < 7 → a ≠ b → (TX5 a).2.1 ≠ (TX5 b).2.1 := by decide +kernel
theorem tyX5_ok : ∀ k, k < 7 → parseFieldDescriptor (TX5 k).2.2.1 = some (tyX5 k) := by decide +kernel
abbrev cX5_copy : ByteArray := prog_8_method_2_code
def yX5_copy : MethodName := ⟨RX5, "copy", "()LBrushSellers$Sale;"⟩
def dkwX5_copy_1 : List UInt8 := [42, 180, 0, 27, 183, 0, 30, 76, 43, 42, 180, 0, 33, 181, 0, 33, 43, 176]
abbrev dktX5_copy_1 : List UInt8 := dkwX5_copy_1 ++ []
def dkwX5_copy_0 : List UInt8 := [187, 0, 10, 89, 42, 180, 0, 9, 42, 180, 0, 15, 42, 180, 0, 18, 42, 180, 0, 21, 42, 180, 0, 24]
abbrev dktX5_copy_0 : List UInt8 := dkwX5_copy_0 ++ dktX5_copy_1
theorem dksX5_copy_0 : cX5_copy.data.toList.drop 0 = dktX5_copy_0 := by decide +kernel
theorem dksX5_copy_1 : cX5_copy.data.toList.drop 24 = dktX5_copy_1 := dk_seg dksX5_copy_0 24 rfl rfl
theorem dX5_copy_0 : decode cX5_copy 0 = .ok (.new 10, 3) := dk_187 0 10 (dk_at dksX5_copy_0 0 rfl rfl)
theorem dX5_copy_3 : decode cX5_copy 3 = .ok (.dup, 1) := dk_89 (dk_at dksX5_copy_0 3 rfl rfl)
theorem dX5_copy_4 : decode cX5_copy 4 = .ok (.aload_n 0, 1) := dk_42 (dk_at dksX5_copy_0 4 rfl rfl)
theorem dX5_copy_5 : decode cX5_copy 5 = .ok (.getfield 9, 3) := dk_180 0 9 (dk_at dksX5_copy_0 5 rfl rfl)
theorem dX5_copy_8 : decode cX5_copy 8 = .ok (.aload_n 0, 1) := dk_42 (dk_at dksX5_copy_0 8 rfl rfl)
theorem dX5_copy_9 : decode cX5_copy 9 = .ok (.getfield 15, 3) := dk_180 0 15 (dk_at dksX5_copy_0 9 rfl rfl)
theorem dX5_copy_12 : decode cX5_copy 12 = .ok (.aload_n 0, 1) := dk_42 (dk_at dksX5_copy_0 12 rfl rfl)
theorem dX5_copy_13 : decode cX5_copy 13 = .ok (.getfield 18, 3) := dk_180 0 18 (dk_at dksX5_copy_0 13 rfl rfl)
theorem dX5_copy_16 : decode cX5_copy 16 = .ok (.aload_n 0, 1) := dk_42 (dk_at dksX5_copy_0 16 rfl rfl)
theorem dX5_copy_17 : decode cX5_copy 17 = .ok (.getfield 21, 3) := dk_180 0 21 (dk_at dksX5_copy_0 17 rfl rfl)
theorem dX5_copy_20 : decode cX5_copy 20 = .ok (.aload_n 0, 1) := dk_42 (dk_at dksX5_copy_0 20 rfl rfl)
theorem dX5_copy_21 : decode cX5_copy 21 = .ok (.getfield 24, 3) := dk_180 0 24 (dk_at dksX5_copy_0 21 rfl rfl)
theorem dX5_copy_24 : decode cX5_copy 24 = .ok (.aload_n 0, 1) := dk_42 (dk_at dksX5_copy_1 0 rfl rfl)
theorem dX5_copy_25 : decode cX5_copy 25 = .ok (.getfield 27, 3) := dk_180 0 27 (dk_at dksX5_copy_1 1 rfl rfl)
theorem dX5_copy_28 : decode cX5_copy 28 = .ok (.invokespecial 30, 3) := dk_183 0 30 (dk_at dksX5_copy_1 4 rfl rfl)
theorem dX5_copy_31 : decode cX5_copy 31 = .ok (.astore_n 1, 1) := dk_76 (dk_at dksX5_copy_1 7 rfl rfl)
theorem dX5_copy_32 : decode cX5_copy 32 = .ok (.aload_n 1, 1) := dk_43 (dk_at dksX5_copy_1 8 rfl rfl)
theorem dX5_copy_33 : decode cX5_copy 33 = .ok (.aload_n 0, 1) := dk_42 (dk_at dksX5_copy_1 9 rfl rfl)
theorem dX5_copy_34 : decode cX5_copy 34 = .ok (.getfield 33, 3) := dk_180 0 33 (dk_at dksX5_copy_1 10 rfl rfl)
theorem dX5_copy_37 : decode cX5_copy 37 = .ok (.putfield 33, 3) := dk_181 0 33 (dk_at dksX5_copy_1 13 rfl rfl)
theorem dX5_copy_40 : decode cX5_copy 40 = .ok (.aload_n 1, 1) := dk_43 (dk_at dksX5_copy_1 16 rfl rfl)
theorem dX5_copy_41 : decode cX5_copy 41 = .ok (.areturn, 1) := dk_176 (dk_at dksX5_copy_1 17 rfl rfl)
abbrev cX5_init : ByteArray := prog_8_method_1_code
def yX5_init : MethodName := ⟨RX5, "<init>", "(IIIIII)V"⟩
def dkwX5_init_1 : List UInt8 := [181, 0, 21, 42, 21, 5, 181, 0, 24, 42, 21, 6, 181, 0, 27, 177]
abbrev dktX5_init_1 : List UInt8 := dkwX5_init_1 ++ []
def dkwX5_init_0 : List UInt8 := [42, 183, 0, 3, 42, 27, 181, 0, 9, 42, 28, 181, 0, 15, 42, 29, 181, 0, 18, 42, 21, 4]
abbrev dktX5_init_0 : List UInt8 := dkwX5_init_0 ++ dktX5_init_1
theorem dksX5_init_0 : cX5_init.data.toList.drop 0 = dktX5_init_0 := by decide +kernel
theorem dksX5_init_1 : cX5_init.data.toList.drop 22 = dktX5_init_1 := dk_seg dksX5_init_0 22 rfl rfl
theorem dX5_init_0 : decode cX5_init 0 = .ok (.aload_n 0, 1) := dk_42 (dk_at dksX5_init_0 0 rfl rfl)
theorem dX5_init_1 : decode cX5_init 1 = .ok (.invokespecial 3, 3) := dk_183 0 3 (dk_at dksX5_init_0 1 rfl rfl)
theorem dX5_init_4 : decode cX5_init 4 = .ok (.aload_n 0, 1) := dk_42 (dk_at dksX5_init_0 4 rfl rfl)
theorem dX5_init_5 : decode cX5_init 5 = .ok (.iload_n 1, 1) := dk_27 (dk_at dksX5_init_0 5 rfl rfl)
theorem dX5_init_6 : decode cX5_init 6 = .ok (.putfield 9, 3) := dk_181 0 9 (dk_at dksX5_init_0 6 rfl rfl)
theorem dX5_init_9 : decode cX5_init 9 = .ok (.aload_n 0, 1) := dk_42 (dk_at dksX5_init_0 9 rfl rfl)
theorem dX5_init_10 : decode cX5_init 10 = .ok (.iload_n 2, 1) := dk_28 (dk_at dksX5_init_0 10 rfl rfl)
theorem dX5_init_11 : decode cX5_init 11 = .ok (.putfield 15, 3) := dk_181 0 15 (dk_at dksX5_init_0 11 rfl rfl)
theorem dX5_init_14 : decode cX5_init 14 = .ok (.aload_n 0, 1) := dk_42 (dk_at dksX5_init_0 14 rfl rfl)
theorem dX5_init_15 : decode cX5_init 15 = .ok (.iload_n 3, 1) := dk_29 (dk_at dksX5_init_0 15 rfl rfl)
theorem dX5_init_16 : decode cX5_init 16 = .ok (.putfield 18, 3) := dk_181 0 18 (dk_at dksX5_init_0 16 rfl rfl)
theorem dX5_init_19 : decode cX5_init 19 = .ok (.aload_n 0, 1) := dk_42 (dk_at dksX5_init_0 19 rfl rfl)
theorem dX5_init_20 : decode cX5_init 20 = .ok (.iload 4, 2) := dk_21 4 (dk_at dksX5_init_0 20 rfl rfl)
theorem dX5_init_22 : decode cX5_init 22 = .ok (.putfield 21, 3) := dk_181 0 21 (dk_at dksX5_init_1 0 rfl rfl)
theorem dX5_init_25 : decode cX5_init 25 = .ok (.aload_n 0, 1) := dk_42 (dk_at dksX5_init_1 3 rfl rfl)
theorem dX5_init_26 : decode cX5_init 26 = .ok (.iload 5, 2) := dk_21 5 (dk_at dksX5_init_1 4 rfl rfl)
theorem dX5_init_28 : decode cX5_init 28 = .ok (.putfield 24, 3) := dk_181 0 24 (dk_at dksX5_init_1 6 rfl rfl)
theorem dX5_init_31 : decode cX5_init 31 = .ok (.aload_n 0, 1) := dk_42 (dk_at dksX5_init_1 9 rfl rfl)
theorem dX5_init_32 : decode cX5_init 32 = .ok (.iload 6, 2) := dk_21 6 (dk_at dksX5_init_1 10 rfl rfl)
theorem dX5_init_34 : decode cX5_init 34 = .ok (.putfield 27, 3) := dk_181 0 27 (dk_at dksX5_init_1 12 rfl rfl)
theorem dX5_init_37 : decode cX5_init 37 = .ok (.return_, 1) := dk_177 (dk_at dksX5_init_1 15 rfl rfl)
abbrev cX5_coins : ByteArray := prog_8_method_3_code
def yX5_coins : MethodName := ⟨RX5, "coins", "()I"⟩
def dkwX5_coins_0 : List UInt8 := [42, 180, 0, 21, 42, 180, 0, 24, 104, 172]
abbrev dktX5_coins_0 : List UInt8 := dkwX5_coins_0 ++ []
theorem dksX5_coins_0 : cX5_coins.data.toList.drop 0 = dktX5_coins_0 := by decide +kernel
theorem dX5_coins_0 : decode cX5_coins 0 = .ok (.aload_n 0, 1) := dk_42 (dk_at dksX5_coins_0 0 rfl rfl)
theorem dX5_coins_1 : decode cX5_coins 1 = .ok (.getfield 21, 3) := dk_180 0 21 (dk_at dksX5_coins_0 1 rfl rfl)
theorem dX5_coins_4 : decode cX5_coins 4 = .ok (.aload_n 0, 1) := dk_42 (dk_at dksX5_coins_0 4 rfl rfl)
theorem dX5_coins_5 : decode cX5_coins 5 = .ok (.getfield 24, 3) := dk_180 0 24 (dk_at dksX5_coins_0 5 rfl rfl)
theorem dX5_coins_8 : decode cX5_coins 8 = .ok (.imul, 1) := dk_104 (dk_at dksX5_coins_0 8 rfl rfl)
theorem dX5_coins_9 : decode cX5_coins 9 = .ok (.ireturn, 1) := dk_172 (dk_at dksX5_coins_0 9 rfl rfl)
abbrev cX5_value : ByteArray := prog_8_method_4_code
def yX5_value : MethodName := ⟨RX5, "value", "(I)I"⟩
def dkwX5_value_4 : List UInt8 := [153, 0, 7, 4, 167, 0, 9, 3, 167, 0, 5, 16, 244, 172]
abbrev dktX5_value_4 : List UInt8 := dkwX5_value_4 ++ []
def dkwX5_value_3 : List UInt8 := [180, 0, 21, 167, 0, 34, 42, 180, 0, 24, 167, 0, 27, 42, 180, 0, 27, 167, 0, 20, 42, 180, 0, 33]
abbrev dktX5_value_3 : List UInt8 := dkwX5_value_3 ++ dktX5_value_4
def dkwX5_value_2 : List UInt8 := [42, 180, 0, 9, 167, 0, 55, 42, 180, 0, 15, 167, 0, 48, 42, 180, 0, 18, 167, 0, 41, 42]
abbrev dktX5_value_2 : List UInt8 := dkwX5_value_2 ++ dktX5_value_3
def dkwX5_value_1 : List UInt8 := [170, 0, 0, 0, 0, 0, 100, 0, 0, 0, 0, 0, 0, 0, 6, 0, 0, 0, 43, 0, 0, 0, 50, 0, 0, 0, 57, 0, 0, 0, 64, 0, 0, 0, 71, 0, 0, 0, 78, 0, 0, 0, 85]
abbrev dktX5_value_1 : List UInt8 := dkwX5_value_1 ++ dktX5_value_2
def dkwX5_value_0 : List UInt8 := [27]
abbrev dktX5_value_0 : List UInt8 := dkwX5_value_0 ++ dktX5_value_1
theorem dksX5_value_0 : cX5_value.data.toList.drop 0 = dktX5_value_0 := by decide +kernel
theorem dksX5_value_1 : cX5_value.data.toList.drop 1 = dktX5_value_1 := dk_seg dksX5_value_0 1 rfl rfl
theorem dksX5_value_2 : cX5_value.data.toList.drop 44 = dktX5_value_2 := dk_seg dksX5_value_1 43 rfl rfl
theorem dksX5_value_3 : cX5_value.data.toList.drop 66 = dktX5_value_3 := dk_seg dksX5_value_2 22 rfl rfl
theorem dksX5_value_4 : cX5_value.data.toList.drop 90 = dktX5_value_4 := dk_seg dksX5_value_3 24 rfl rfl
theorem dX5_value_0 : decode cX5_value 0 = .ok (.iload_n 1, 1) := dk_27 (dk_at dksX5_value_0 0 rfl rfl)
theorem dX5_value_1 : decode cX5_value 1 = .ok (.tableswitch 100 0 6 #[43, 50, 57, 64, 71, 78, 85], 43) := by decide +kernel
theorem dX5_value_44 : decode cX5_value 44 = .ok (.aload_n 0, 1) := dk_42 (dk_at dksX5_value_2 0 rfl rfl)
theorem dX5_value_45 : decode cX5_value 45 = .ok (.getfield 9, 3) := dk_180 0 9 (dk_at dksX5_value_2 1 rfl rfl)
theorem dX5_value_48 : decode cX5_value 48 = .ok (.goto 55, 3) := dk_167 0 55 (dk_at dksX5_value_2 4 rfl rfl)
theorem dX5_value_51 : decode cX5_value 51 = .ok (.aload_n 0, 1) := dk_42 (dk_at dksX5_value_2 7 rfl rfl)
theorem dX5_value_52 : decode cX5_value 52 = .ok (.getfield 15, 3) := dk_180 0 15 (dk_at dksX5_value_2 8 rfl rfl)
theorem dX5_value_55 : decode cX5_value 55 = .ok (.goto 48, 3) := dk_167 0 48 (dk_at dksX5_value_2 11 rfl rfl)
theorem dX5_value_58 : decode cX5_value 58 = .ok (.aload_n 0, 1) := dk_42 (dk_at dksX5_value_2 14 rfl rfl)
theorem dX5_value_59 : decode cX5_value 59 = .ok (.getfield 18, 3) := dk_180 0 18 (dk_at dksX5_value_2 15 rfl rfl)
theorem dX5_value_62 : decode cX5_value 62 = .ok (.goto 41, 3) := dk_167 0 41 (dk_at dksX5_value_2 18 rfl rfl)
theorem dX5_value_65 : decode cX5_value 65 = .ok (.aload_n 0, 1) := dk_42 (dk_at dksX5_value_2 21 rfl rfl)
theorem dX5_value_66 : decode cX5_value 66 = .ok (.getfield 21, 3) := dk_180 0 21 (dk_at dksX5_value_3 0 rfl rfl)
theorem dX5_value_69 : decode cX5_value 69 = .ok (.goto 34, 3) := dk_167 0 34 (dk_at dksX5_value_3 3 rfl rfl)
theorem dX5_value_72 : decode cX5_value 72 = .ok (.aload_n 0, 1) := dk_42 (dk_at dksX5_value_3 6 rfl rfl)
theorem dX5_value_73 : decode cX5_value 73 = .ok (.getfield 24, 3) := dk_180 0 24 (dk_at dksX5_value_3 7 rfl rfl)
theorem dX5_value_76 : decode cX5_value 76 = .ok (.goto 27, 3) := dk_167 0 27 (dk_at dksX5_value_3 10 rfl rfl)
theorem dX5_value_79 : decode cX5_value 79 = .ok (.aload_n 0, 1) := dk_42 (dk_at dksX5_value_3 13 rfl rfl)
theorem dX5_value_80 : decode cX5_value 80 = .ok (.getfield 27, 3) := dk_180 0 27 (dk_at dksX5_value_3 14 rfl rfl)
theorem dX5_value_83 : decode cX5_value 83 = .ok (.goto 20, 3) := dk_167 0 20 (dk_at dksX5_value_3 17 rfl rfl)
theorem dX5_value_86 : decode cX5_value 86 = .ok (.aload_n 0, 1) := dk_42 (dk_at dksX5_value_3 20 rfl rfl)
theorem dX5_value_87 : decode cX5_value 87 = .ok (.getfield 33, 3) := dk_180 0 33 (dk_at dksX5_value_3 21 rfl rfl)
theorem dX5_value_90 : decode cX5_value 90 = .ok (.ifCond .eq 7, 3) := dk_153 0 7 (dk_at dksX5_value_4 0 rfl rfl)
theorem dX5_value_93 : decode cX5_value 93 = .ok (.iconst 1, 1) := dk_4 (dk_at dksX5_value_4 3 rfl rfl)
theorem dX5_value_94 : decode cX5_value 94 = .ok (.goto 9, 3) := dk_167 0 9 (dk_at dksX5_value_4 4 rfl rfl)
theorem dX5_value_97 : decode cX5_value 97 = .ok (.iconst 0, 1) := dk_3 (dk_at dksX5_value_4 7 rfl rfl)
theorem dX5_value_98 : decode cX5_value 98 = .ok (.goto 5, 3) := dk_167 0 5 (dk_at dksX5_value_4 8 rfl rfl)
theorem dX5_value_101 : decode cX5_value 101 = .ok (.bipush (-12), 2) := dk_16 244 (dk_at dksX5_value_4 11 rfl rfl)
theorem dX5_value_103 : decode cX5_value 103 = .ok (.ireturn, 1) := dk_172 (dk_at dksX5_value_4 13 rfl rfl)
theorem q96 : (Jvm.Cond.initialized "BrushSellers$Sale") ∈ lw_all := lw_g (lw_at lw_m1 33 rfl) rfl
theorem q266 : (Jvm.Cond.selects "BrushSellers$Sale" ({ cls := "java/lang/Object", name := "getClass", desc := "()Ljava/lang/Class;" } : Jvm.MethodName) ({ cls := "java/lang/Object", name := "getClass", desc := "()Ljava/lang/Class;" } : Jvm.MethodName)) ∈ lw_all := lw_g (lw_at lw_m1 203 rfl) rfl
theorem q975 : (Jvm.Cond.instanceMethod ({ cls := "BrushSellers$Sale", name := "copy", desc := "()LBrushSellers$Sale;" } : Jvm.MethodName)) ∈ lw_all := lw_g (lw_at lw_m4 192 rfl) rfl
theorem q976 : (Jvm.Cond.selects "BrushSellers$Sale" ({ cls := "BrushSellers$Sale", name := "copy", desc := "()LBrushSellers$Sale;" } : Jvm.MethodName) ({ cls := "BrushSellers$Sale", name := "copy", desc := "()LBrushSellers$Sale;" } : Jvm.MethodName)) ∈ lw_all := lw_g (lw_at lw_m4 193 rfl) rfl
theorem q977 : (Jvm.Cond.code ({ cls := "BrushSellers$Sale", name := "copy", desc := "()LBrushSellers$Sale;" } : Jvm.MethodName) prog_8_method_2_code (2 : Nat) (Option.some (Jvm.ClassFile.FieldType.object "BrushSellers$Sale"))) ∈ lw_all := lw_g (lw_at lw_m4 194 rfl) rfl
theorem q978 : (Jvm.Cond.classLink "BrushSellers$Sale" (10 : Nat) "BrushSellers$Sale") ∈ lw_all := lw_g (lw_at lw_m4 195 rfl) rfl
theorem q979 : (Jvm.Cond.instantiable "BrushSellers$Sale" (7 : Nat)) ∈ lw_all := lw_g (lw_at lw_m4 196 rfl) rfl
theorem q980 : (Jvm.Cond.methodLink "BrushSellers$Sale" (30 : Nat) ({ cls := "BrushSellers$Sale", name := "<init>", desc := "(IIIIII)V" } : Jvm.MethodName)) ∈ lw_all := lw_g (lw_at lw_m4 197 rfl) rfl
theorem q981 : (Jvm.Cond.instanceMethod ({ cls := "BrushSellers$Sale", name := "<init>", desc := "(IIIIII)V" } : Jvm.MethodName)) ∈ lw_all := lw_g (lw_at lw_m4 198 rfl) rfl
theorem q982 : (Jvm.Cond.code ({ cls := "BrushSellers$Sale", name := "<init>", desc := "(IIIIII)V" } : Jvm.MethodName) prog_8_method_1_code (7 : Nat) (Option.none : Option Jvm.ClassFile.FieldType)) ∈ lw_all := lw_g (lw_at lw_m4 199 rfl) rfl
theorem q983 : (Jvm.Cond.methodLink "BrushSellers$Sale" (3 : Nat) ({ cls := "java/lang/Object", name := "<init>", desc := "()V" } : Jvm.MethodName)) ∈ lw_all := lw_g (lw_at lw_m4 200 rfl) rfl
theorem q984 : (Jvm.Cond.fieldLink "BrushSellers$Sale" (9 : Nat) "BrushSellers$Sale" "seller" "I") ∈ lw_all := lw_g (lw_at lw_m4 201 rfl) rfl
theorem q986 : (Jvm.Cond.fieldLink "BrushSellers$Sale" (15 : Nat) "BrushSellers$Sale" "house" "I") ∈ lw_all := lw_g (lw_at lw_m4 203 rfl) rfl
theorem q988 : (Jvm.Cond.fieldLink "BrushSellers$Sale" (18 : Nat) "BrushSellers$Sale" "bristle" "I") ∈ lw_all := lw_g (lw_at lw_m4 205 rfl) rfl
theorem q990 : (Jvm.Cond.fieldLink "BrushSellers$Sale" (21 : Nat) "BrushSellers$Sale" "brushes" "I") ∈ lw_all := lw_g (lw_at lw_m4 207 rfl) rfl
theorem q992 : (Jvm.Cond.fieldLink "BrushSellers$Sale" (24 : Nat) "BrushSellers$Sale" "price" "I") ∈ lw_all := lw_g (lw_at lw_m4 209 rfl) rfl
theorem q993 : (Jvm.Cond.fieldLink "BrushSellers$Sale" (27 : Nat) "BrushSellers$Sale" "day" "I") ∈ lw_all := lw_g (lw_at lw_m4 210 rfl) rfl
theorem q995 : (Jvm.Cond.fieldLink "BrushSellers$Sale" (33 : Nat) "BrushSellers$Sale" "isBack" "Z") ∈ lw_all := lw_g (lw_at lw_m4 212 rfl) rfl
theorem q997 : (Jvm.Cond.laysFinal "BrushSellers$Sale" "BrushSellers$Sale" "seller" "I") ∈ lw_all := lw_g (lw_at lw_m4 214 rfl) rfl
theorem q998 : (Jvm.Cond.soleField "BrushSellers$Sale" "seller") ∈ lw_all := lw_g (lw_at lw_m4 215 rfl) rfl
theorem q999 : (Jvm.Cond.laysFinal "BrushSellers$Sale" "BrushSellers$Sale" "house" "I") ∈ lw_all := lw_g (lw_at lw_m4 216 rfl) rfl
theorem q1000 : (Jvm.Cond.soleField "BrushSellers$Sale" "house") ∈ lw_all := lw_g (lw_at lw_m4 217 rfl) rfl
theorem q1001 : (Jvm.Cond.laysFinal "BrushSellers$Sale" "BrushSellers$Sale" "bristle" "I") ∈ lw_all := lw_g (lw_at lw_m4 218 rfl) rfl
theorem q1002 : (Jvm.Cond.soleField "BrushSellers$Sale" "bristle") ∈ lw_all := lw_g (lw_at lw_m4 219 rfl) rfl
theorem q1003 : (Jvm.Cond.laysFinal "BrushSellers$Sale" "BrushSellers$Sale" "brushes" "I") ∈ lw_all := lw_g (lw_at lw_m4 220 rfl) rfl
theorem q1004 : (Jvm.Cond.soleField "BrushSellers$Sale" "brushes") ∈ lw_all := lw_g (lw_at lw_m4 221 rfl) rfl
theorem q1005 : (Jvm.Cond.laysFinal "BrushSellers$Sale" "BrushSellers$Sale" "price" "I") ∈ lw_all := lw_g (lw_at lw_m4 222 rfl) rfl
theorem q1006 : (Jvm.Cond.soleField "BrushSellers$Sale" "price") ∈ lw_all := lw_g (lw_at lw_m4 223 rfl) rfl
theorem q1007 : (Jvm.Cond.laysFinal "BrushSellers$Sale" "BrushSellers$Sale" "day" "I") ∈ lw_all := lw_g (lw_at lw_m4 224 rfl) rfl
theorem q1008 : (Jvm.Cond.soleField "BrushSellers$Sale" "day") ∈ lw_all := lw_g (lw_at lw_m4 225 rfl) rfl
theorem q1009 : (Jvm.Cond.lays "BrushSellers$Sale" "BrushSellers$Sale" "isBack" "Z") ∈ lw_all := lw_g (lw_at lw_m4 226 rfl) rfl
theorem q1010 : (Jvm.Cond.soleField "BrushSellers$Sale" "isBack") ∈ lw_all := lw_g (lw_at lw_m4 227 rfl) rfl
theorem q1011 : (Jvm.Cond.superclass "BrushSellers$Sale" "java/lang/Object") ∈ lw_all := lw_g (lw_at lw_m4 228 rfl) rfl
theorem q1387 : (Jvm.Cond.instanceMethod ({ cls := "BrushSellers$Sale", name := "coins", desc := "()I" } : Jvm.MethodName)) ∈ lw_all := lw_g (lw_at lw_m6 124 rfl) rfl
theorem q1388 : (Jvm.Cond.selects "BrushSellers$Sale" ({ cls := "BrushSellers$Sale", name := "coins", desc := "()I" } : Jvm.MethodName) ({ cls := "BrushSellers$Sale", name := "coins", desc := "()I" } : Jvm.MethodName)) ∈ lw_all := lw_g (lw_at lw_m6 125 rfl) rfl
theorem q1389 : (Jvm.Cond.code ({ cls := "BrushSellers$Sale", name := "coins", desc := "()I" } : Jvm.MethodName) prog_8_method_3_code (1 : Nat) (Option.some Jvm.ClassFile.FieldType.int)) ∈ lw_all := lw_g (lw_at lw_m6 126 rfl) rfl
theorem q1410 : (Jvm.Cond.instanceMethod ({ cls := "BrushSellers$Sale", name := "value", desc := "(I)I" } : Jvm.MethodName)) ∈ lw_all := lw_g (lw_at lw_m6 147 rfl) rfl
theorem q1411 : (Jvm.Cond.selects "BrushSellers$Sale" ({ cls := "BrushSellers$Sale", name := "value", desc := "(I)I" } : Jvm.MethodName) ({ cls := "BrushSellers$Sale", name := "value", desc := "(I)I" } : Jvm.MethodName)) ∈ lw_all := lw_g (lw_at lw_m6 148 rfl) rfl
theorem q1412 : (Jvm.Cond.code ({ cls := "BrushSellers$Sale", name := "value", desc := "(I)I" } : Jvm.MethodName) prog_8_method_4_code (2 : Nat) (Option.some Jvm.ClassFile.FieldType.int)) ∈ lw_all := lw_g (lw_at lw_m6 149 rfl) rfl
theorem q2268 : (Jvm.Cond.castable "BrushSellers$Sale" "java/lang/Object") ∈ lw_tbl := lw_at lw_m10 45 rfl
theorem in_X5 : ∀ w ∈ wsX50, w ∈ lw_all := lw_in wsX50 [997, 999, 1001, 1003, 1005, 1007, 1009] (by decide +kernel) (by decide +kernel)

/-! BrushSellers$Refused -/
set_option maxRecDepth 100000
def RX6 : String := "BrushSellers$Refused"
def TX6 : u_T := fun k => match k with
  | 0 => ("java/lang/Throwable", "cause", "Ljava/lang/Throwable;", false)
  | 1 => ("java/lang/Throwable", "stackTrace", "[Ljava/lang/StackTraceElement;", false)
  | 2 => ("java/lang/Throwable", "suppressedExceptions", "Ljava/util/List;", false)
  | 3 => ("java/lang/Throwable", "detailMessage", "Ljava/lang/String;", false)
  | 4 => ("java/lang/Throwable", "backtrace", "Ljava/lang/Object;", false)
  | 5 => ("java/lang/Throwable", "depth", "I", false)
  | 6 => ("BrushSellers$Refused", "reason", "I", true)
  | _ => ("BrushSellers$Refused", "detail", "I", true)
def tyX6 : Nat → FieldType := fun k => match k with
  | 0 => .object "java/lang/Throwable"
  | 1 => .array (.object "java/lang/StackTraceElement")
  | 2 => .object "java/util/List"
  | 3 => .object "java/lang/String"
  | 4 => .object "java/lang/Object"
  | 5 => .int
  | 6 => .int
  | _ => .int
abbrev wsX60 : List Cond := u_ws RX6 TX6 8
theorem nmX6 : ∀ a, a < 8 → ∀ b, b < 8 → a ≠ b → (TX6 a).2.1 ≠ (TX6 b).2.1 := by decide +kernel
theorem tyX6_ok : ∀ k, k < 8 → parseFieldDescriptor (TX6 k).2.2.1 = some (tyX6 k) := by decide +kernel
abbrev cX6_init : ByteArray := prog_7_method_1_code
def yX6_init : MethodName := ⟨RX6, "<init>", "(II)V"⟩
def dkwX6_init_0 : List UInt8 := [42, 1, 1, 3, 3, 183, 0, 1, 42, 27, 181, 0, 7, 42, 28, 181, 0, 13, 177]
abbrev dktX6_init_0 : List UInt8 := dkwX6_init_0 ++ []
theorem dksX6_init_0 : cX6_init.data.toList.drop 0 = dktX6_init_0 := by decide +kernel
theorem dX6_init_0 : decode cX6_init 0 = .ok (.aload_n 0, 1) := dk_42 (dk_at dksX6_init_0 0 rfl rfl)
theorem dX6_init_1 : decode cX6_init 1 = .ok (.aconst_null, 1) := dk_1 (dk_at dksX6_init_0 1 rfl rfl)
theorem dX6_init_2 : decode cX6_init 2 = .ok (.aconst_null, 1) := dk_1 (dk_at dksX6_init_0 2 rfl rfl)
theorem dX6_init_3 : decode cX6_init 3 = .ok (.iconst 0, 1) := dk_3 (dk_at dksX6_init_0 3 rfl rfl)
theorem dX6_init_4 : decode cX6_init 4 = .ok (.iconst 0, 1) := dk_3 (dk_at dksX6_init_0 4 rfl rfl)
theorem dX6_init_5 : decode cX6_init 5 = .ok (.invokespecial 1, 3) := dk_183 0 1 (dk_at dksX6_init_0 5 rfl rfl)
theorem dX6_init_8 : decode cX6_init 8 = .ok (.aload_n 0, 1) := dk_42 (dk_at dksX6_init_0 8 rfl rfl)
theorem dX6_init_9 : decode cX6_init 9 = .ok (.iload_n 1, 1) := dk_27 (dk_at dksX6_init_0 9 rfl rfl)
theorem dX6_init_10 : decode cX6_init 10 = .ok (.putfield 7, 3) := dk_181 0 7 (dk_at dksX6_init_0 10 rfl rfl)
theorem dX6_init_13 : decode cX6_init 13 = .ok (.aload_n 0, 1) := dk_42 (dk_at dksX6_init_0 13 rfl rfl)
theorem dX6_init_14 : decode cX6_init 14 = .ok (.iload_n 2, 1) := dk_28 (dk_at dksX6_init_0 14 rfl rfl)
theorem dX6_init_15 : decode cX6_init 15 = .ok (.putfield 13, 3) := dk_181 0 13 (dk_at dksX6_init_0 15 rfl rfl)
theorem dX6_init_18 : decode cX6_init 18 = .ok (.return_, 1) := dk_177 (dk_at dksX6_init_0 18 rfl rfl)
theorem q98 : (Jvm.Cond.initialized "BrushSellers$Refused") ∈ lw_all := lw_g (lw_at lw_m1 35 rfl) rfl
theorem q265 : (Jvm.Cond.selects "BrushSellers$Refused" ({ cls := "java/lang/Object", name := "getClass", desc := "()Ljava/lang/Class;" } : Jvm.MethodName) ({ cls := "java/lang/Object", name := "getClass", desc := "()Ljava/lang/Class;" } : Jvm.MethodName)) ∈ lw_all := lw_g (lw_at lw_m1 202 rfl) rfl
theorem q616 : (Jvm.Cond.selects "BrushSellers$Refused" ({ cls := "java/lang/Throwable", name := "fillInStackTrace", desc := "()Ljava/lang/Throwable;" } : Jvm.MethodName) ({ cls := "java/lang/Throwable", name := "fillInStackTrace", desc := "()Ljava/lang/Throwable;" } : Jvm.MethodName)) ∈ lw_all := lw_g (lw_at lw_m3 73 rfl) rfl
theorem q639 : (Jvm.Cond.selects "BrushSellers$Refused" ({ cls := "java/lang/Throwable", name := "toString", desc := "()Ljava/lang/String;" } : Jvm.MethodName) ({ cls := "java/lang/Throwable", name := "toString", desc := "()Ljava/lang/String;" } : Jvm.MethodName)) ∈ lw_all := lw_g (lw_at lw_m3 96 rfl) rfl
theorem q647 : (Jvm.Cond.selects "BrushSellers$Refused" ({ cls := "java/lang/Throwable", name := "getLocalizedMessage", desc := "()Ljava/lang/String;" } : Jvm.MethodName) ({ cls := "java/lang/Throwable", name := "getLocalizedMessage", desc := "()Ljava/lang/String;" } : Jvm.MethodName)) ∈ lw_all := lw_g (lw_at lw_m3 104 rfl) rfl
theorem q654 : (Jvm.Cond.selects "BrushSellers$Refused" ({ cls := "java/lang/Throwable", name := "getMessage", desc := "()Ljava/lang/String;" } : Jvm.MethodName) ({ cls := "java/lang/Throwable", name := "getMessage", desc := "()Ljava/lang/String;" } : Jvm.MethodName)) ∈ lw_all := lw_g (lw_at lw_m3 111 rfl) rfl
theorem q1054 : (Jvm.Cond.instantiable "BrushSellers$Refused" (8 : Nat)) ∈ lw_all := lw_g (lw_at lw_m5 31 rfl) rfl
theorem q1055 : (Jvm.Cond.castable "BrushSellers$Refused" "BrushSellers$Refused") ∈ lw_tbl := lw_at lw_m5 32 rfl
theorem q1056 : (Jvm.Cond.selects "BrushSellers$Refused" ({ cls := "java/lang/Throwable", name := "fillInStackTrace", desc := "(I)Ljava/lang/Throwable;" } : Jvm.MethodName) ({ cls := "java/lang/Throwable", name := "fillInStackTrace", desc := "(I)Ljava/lang/Throwable;" } : Jvm.MethodName)) ∈ lw_all := lw_g (lw_at lw_m5 33 rfl) rfl
theorem q1057 : (Jvm.Cond.lays "BrushSellers$Refused" "java/lang/Throwable" "cause" "Ljava/lang/Throwable;") ∈ lw_all := lw_g (lw_at lw_m5 34 rfl) rfl
theorem q1058 : (Jvm.Cond.lays "BrushSellers$Refused" "java/lang/Throwable" "stackTrace" "[Ljava/lang/StackTraceElement;") ∈ lw_all := lw_g (lw_at lw_m5 35 rfl) rfl
theorem q1059 : (Jvm.Cond.lays "BrushSellers$Refused" "java/lang/Throwable" "suppressedExceptions" "Ljava/util/List;") ∈ lw_all := lw_g (lw_at lw_m5 36 rfl) rfl
theorem q1060 : (Jvm.Cond.lays "BrushSellers$Refused" "java/lang/Throwable" "detailMessage" "Ljava/lang/String;") ∈ lw_all := lw_g (lw_at lw_m5 37 rfl) rfl
theorem q1061 : (Jvm.Cond.lays "BrushSellers$Refused" "java/lang/Throwable" "backtrace" "Ljava/lang/Object;") ∈ lw_all := lw_g (lw_at lw_m5 38 rfl) rfl
theorem q1063 : (Jvm.Cond.instanceMethod ({ cls := "BrushSellers$Refused", name := "<init>", desc := "(II)V" } : Jvm.MethodName)) ∈ lw_all := lw_g (lw_at lw_m5 40 rfl) rfl
theorem q1064 : (Jvm.Cond.code ({ cls := "BrushSellers$Refused", name := "<init>", desc := "(II)V" } : Jvm.MethodName) prog_7_method_1_code (3 : Nat) (Option.none : Option Jvm.ClassFile.FieldType)) ∈ lw_all := lw_g (lw_at lw_m5 41 rfl) rfl
theorem q1065 : (Jvm.Cond.methodLink "BrushSellers$Refused" (1 : Nat) ({ cls := "java/lang/Exception", name := "<init>", desc := "(Ljava/lang/String;Ljava/lang/Throwable;ZZ)V" } : Jvm.MethodName)) ∈ lw_all := lw_g (lw_at lw_m5 42 rfl) rfl
theorem q1071 : (Jvm.Cond.fieldLink "BrushSellers$Refused" (7 : Nat) "BrushSellers$Refused" "reason" "I") ∈ lw_all := lw_g (lw_at lw_m5 48 rfl) rfl
theorem q1073 : (Jvm.Cond.fieldLink "BrushSellers$Refused" (13 : Nat) "BrushSellers$Refused" "detail" "I") ∈ lw_all := lw_g (lw_at lw_m5 50 rfl) rfl
theorem q1075 : (Jvm.Cond.laysFinal "BrushSellers$Refused" "BrushSellers$Refused" "reason" "I") ∈ lw_all := lw_g (lw_at lw_m5 52 rfl) rfl
theorem q1076 : (Jvm.Cond.soleField "BrushSellers$Refused" "reason") ∈ lw_all := lw_g (lw_at lw_m5 53 rfl) rfl
theorem q1077 : (Jvm.Cond.laysFinal "BrushSellers$Refused" "BrushSellers$Refused" "detail" "I") ∈ lw_all := lw_g (lw_at lw_m5 54 rfl) rfl
theorem q1078 : (Jvm.Cond.soleField "BrushSellers$Refused" "detail") ∈ lw_all := lw_g (lw_at lw_m5 55 rfl) rfl
theorem q1079 : (Jvm.Cond.lays "BrushSellers$Refused" "java/lang/Throwable" "depth" "I") ∈ lw_all := lw_g (lw_at lw_m5 56 rfl) rfl
theorem q1080 : (Jvm.Cond.superclass "BrushSellers$Refused" "java/lang/Exception") ∈ lw_all := lw_g (lw_at lw_m5 57 rfl) rfl
theorem q2270 : (Jvm.Cond.castable "BrushSellers$Refused" "java/lang/Object") ∈ lw_tbl := lw_at lw_m10 47 rfl
theorem in_X6 : ∀ w ∈ wsX60, w ∈ lw_all := lw_in wsX60 [1057, 1058, 1059, 1060, 1061, 1079, 1075, 1077] (by decide +kernel) (by decide +kernel)

/-! BrushSellers$Placed -/
set_option maxRecDepth 100000
def RX7 : String := "BrushSellers$Placed"
abbrev cX7_isAt : ByteArray := prog_5_method_4_code
def yX7_isAt : MethodName := ⟨RX7, "isAt", "(I)Z"⟩
def dkwX7_isAt_0 : List UInt8 := [42, 185, 0, 1, 1, 0, 27, 160, 0, 7, 4, 167, 0, 4, 3, 172]
abbrev dktX7_isAt_0 : List UInt8 := dkwX7_isAt_0 ++ []
theorem dksX7_isAt_0 : cX7_isAt.data.toList.drop 0 = dktX7_isAt_0 := by decide +kernel
theorem dX7_isAt_0 : decode cX7_isAt 0 = .ok (.aload_n 0, 1) := dk_42 (dk_at dksX7_isAt_0 0 rfl rfl)
theorem dX7_isAt_1 : decode cX7_isAt 1 = .ok (.invokeinterface 1 1, 5) := by decide +kernel
theorem dX7_isAt_6 : decode cX7_isAt 6 = .ok (.iload_n 1, 1) := dk_27 (dk_at dksX7_isAt_0 6 rfl rfl)
theorem dX7_isAt_7 : decode cX7_isAt 7 = .ok (.if_icmp .ne 7, 3) := dk_160 0 7 (dk_at dksX7_isAt_0 7 rfl rfl)
theorem dX7_isAt_10 : decode cX7_isAt 10 = .ok (.iconst 1, 1) := dk_4 (dk_at dksX7_isAt_0 10 rfl rfl)
theorem dX7_isAt_11 : decode cX7_isAt 11 = .ok (.goto 4, 3) := dk_167 0 4 (dk_at dksX7_isAt_0 11 rfl rfl)
theorem dX7_isAt_14 : decode cX7_isAt 14 = .ok (.iconst 0, 1) := dk_3 (dk_at dksX7_isAt_0 14 rfl rfl)
theorem dX7_isAt_15 : decode cX7_isAt 15 = .ok (.ireturn, 1) := dk_172 (dk_at dksX7_isAt_0 15 rfl rfl)
abbrev cX7_houses : ByteArray := prog_5_method_3_code
def yX7_houses : MethodName := ⟨RX7, "houses", "(I)I"⟩
def dkwX7_houses_0 : List UInt8 := [42, 185, 0, 1, 1, 0, 27, 184, 0, 7, 172]
abbrev dktX7_houses_0 : List UInt8 := dkwX7_houses_0 ++ []
theorem dksX7_houses_0 : cX7_houses.data.toList.drop 0 = dktX7_houses_0 := by decide +kernel
theorem dX7_houses_0 : decode cX7_houses 0 = .ok (.aload_n 0, 1) := dk_42 (dk_at dksX7_houses_0 0 rfl rfl)
theorem dX7_houses_1 : decode cX7_houses 1 = .ok (.invokeinterface 1 1, 5) := by decide +kernel
theorem dX7_houses_6 : decode cX7_houses 6 = .ok (.iload_n 1, 1) := dk_27 (dk_at dksX7_houses_0 6 rfl rfl)
theorem dX7_houses_7 : decode cX7_houses 7 = .ok (.invokestatic 7, 3) := dk_184 0 7 (dk_at dksX7_houses_0 7 rfl rfl)
theorem dX7_houses_10 : decode cX7_houses 10 = .ok (.ireturn, 1) := dk_172 (dk_at dksX7_houses_0 10 rfl rfl)
abbrev cX7_far : ByteArray := prog_5_method_5_code
def yX7_far : MethodName := ⟨RX7, "far", "(II)I"⟩
def dkwX7_far_0 : List UInt8 := [26, 27, 100, 184, 0, 11, 172]
abbrev dktX7_far_0 : List UInt8 := dkwX7_far_0 ++ []
theorem dksX7_far_0 : cX7_far.data.toList.drop 0 = dktX7_far_0 := by decide +kernel
theorem dX7_far_0 : decode cX7_far 0 = .ok (.iload_n 0, 1) := dk_26 (dk_at dksX7_far_0 0 rfl rfl)
theorem dX7_far_1 : decode cX7_far 1 = .ok (.iload_n 1, 1) := dk_27 (dk_at dksX7_far_0 1 rfl rfl)
theorem dX7_far_2 : decode cX7_far 2 = .ok (.isub, 1) := dk_100 (dk_at dksX7_far_0 2 rfl rfl)
theorem dX7_far_3 : decode cX7_far 3 = .ok (.invokestatic 11, 3) := dk_184 0 11 (dk_at dksX7_far_0 3 rfl rfl)
theorem dX7_far_6 : decode cX7_far 6 = .ok (.ireturn, 1) := dk_172 (dk_at dksX7_far_0 6 rfl rfl)
theorem q102 : (Jvm.Cond.initialized "BrushSellers$Placed") ∈ lw_all := lw_g (lw_at lw_m1 39 rfl) rfl
theorem q1176 : (Jvm.Cond.declares ({ cls := "BrushSellers$Placed", name := "isAt", desc := "(I)Z" } : Jvm.MethodName)) ∈ lw_tbl := lw_at lw_m5 153 rfl
theorem q1178 : (Jvm.Cond.instanceMethod ({ cls := "BrushSellers$Placed", name := "isAt", desc := "(I)Z" } : Jvm.MethodName)) ∈ lw_all := lw_g (lw_at lw_m5 155 rfl) rfl
theorem q1179 : (Jvm.Cond.publicMethod ({ cls := "BrushSellers$Placed", name := "isAt", desc := "(I)Z" } : Jvm.MethodName)) ∈ lw_tbl := lw_at lw_m5 156 rfl
theorem q1180 : (Jvm.Cond.code ({ cls := "BrushSellers$Placed", name := "isAt", desc := "(I)Z" } : Jvm.MethodName) prog_5_method_4_code (2 : Nat) (Option.some Jvm.ClassFile.FieldType.boolean)) ∈ lw_all := lw_g (lw_at lw_m5 157 rfl) rfl
theorem q1181 : (Jvm.Cond.interfaceEntry "BrushSellers$Placed" (1 : Nat)) ∈ lw_tbl := lw_at lw_m5 158 rfl
theorem q1182 : (Jvm.Cond.methodLink "BrushSellers$Placed" (1 : Nat) ({ cls := "BrushSellers$Placed", name := "house", desc := "()I" } : Jvm.MethodName)) ∈ lw_all := lw_g (lw_at lw_m5 159 rfl) rfl
theorem q1183 : (Jvm.Cond.interfaceMethod "BrushSellers$Placed" "BrushSellers$Placed" "house" "()I") ∈ lw_tbl := lw_at lw_m5 160 rfl
theorem q1184 : (Jvm.Cond.declares ({ cls := "BrushSellers$Placed", name := "house", desc := "()I" } : Jvm.MethodName)) ∈ lw_tbl := lw_at lw_m5 161 rfl
theorem q1258 : (Jvm.Cond.declares ({ cls := "BrushSellers$Placed", name := "houses", desc := "(I)I" } : Jvm.MethodName)) ∈ lw_tbl := lw_at lw_m5 235 rfl
theorem q1260 : (Jvm.Cond.instanceMethod ({ cls := "BrushSellers$Placed", name := "houses", desc := "(I)I" } : Jvm.MethodName)) ∈ lw_all := lw_g (lw_at lw_m5 237 rfl) rfl
theorem q1261 : (Jvm.Cond.publicMethod ({ cls := "BrushSellers$Placed", name := "houses", desc := "(I)I" } : Jvm.MethodName)) ∈ lw_tbl := lw_at lw_m5 238 rfl
theorem q1262 : (Jvm.Cond.code ({ cls := "BrushSellers$Placed", name := "houses", desc := "(I)I" } : Jvm.MethodName) prog_5_method_3_code (2 : Nat) (Option.some Jvm.ClassFile.FieldType.int)) ∈ lw_all := lw_g (lw_at lw_m5 239 rfl) rfl
theorem q1263 : (Jvm.Cond.methodLink "BrushSellers$Placed" (7 : Nat) ({ cls := "BrushSellers$Placed", name := "far", desc := "(II)I" } : Jvm.MethodName)) ∈ lw_all := lw_g (lw_at lw_m6 0 rfl) rfl
theorem q1264 : (Jvm.Cond.static ({ cls := "BrushSellers$Placed", name := "far", desc := "(II)I" } : Jvm.MethodName)) ∈ lw_all := lw_g (lw_at lw_m6 1 rfl) rfl
theorem q1265 : (Jvm.Cond.code ({ cls := "BrushSellers$Placed", name := "far", desc := "(II)I" } : Jvm.MethodName) prog_5_method_5_code (2 : Nat) (Option.some Jvm.ClassFile.FieldType.int)) ∈ lw_all := lw_g (lw_at lw_m6 2 rfl) rfl
theorem q1266 : (Jvm.Cond.methodLink "BrushSellers$Placed" (11 : Nat) ({ cls := "java/lang/Math", name := "abs", desc := "(I)I" } : Jvm.MethodName)) ∈ lw_all := lw_g (lw_at lw_m6 3 rfl) rfl

/-! BrushSellers$Reader -/
set_option maxRecDepth 100000
def RX8 : String := "BrushSellers$Reader"
def TX8 : u_T := fun k => match k with
  | 0 => ("BrushSellers$Reader", "words", "[Ljava/lang/String;", true)
  | 1 => ("BrushSellers$Reader", "text", "Ljava/lang/CharSequence;", true)
  | _ => ("BrushSellers$Reader", "at", "I", false)
def tyX8 : Nat → FieldType := fun k => match k with
  | 0 => .array (.object "java/lang/String")
  | 1 => .object "java/lang/CharSequence"
  | _ => .int
abbrev wsX80 : List Cond := u_ws RX8 TX8 3
theorem nmX8 : ∀ a, a < 3 → ∀ b, b < 3 → a ≠ b → (TX8 a).2.1 ≠ (TX8 b).2.1 := by decide +kernel
theorem tyX8_ok : ∀ k, k < 3 → parseFieldDescriptor (TX8 k).2.2.1 = some (tyX8 k) := by decide +kernel
abbrev cX8_init : ByteArray := prog_6_method_1_code
def yX8_init : MethodName := ⟨RX8, "<init>", "(Ljava/lang/CharSequence;)V"⟩
def dkwX8_init_2 : List UInt8 := [181, 0, 25, 42, 43, 181, 0, 31, 177]
abbrev dktX8_init_2 : List UInt8 := dkwX8_init_2 ++ []
def dkwX8_init_1 : List UInt8 := [83, 89, 6, 18, 17, 83, 89, 7, 18, 19, 83, 89, 8, 18, 21, 83, 89, 16, 6, 18, 23, 83]
abbrev dktX8_init_1 : List UInt8 := dkwX8_init_1 ++ dktX8_init_2
def dkwX8_init_0 : List UInt8 := [42, 183, 0, 3, 42, 16, 7, 189, 0, 9, 89, 3, 18, 11, 83, 89, 4, 18, 13, 83, 89, 5, 18, 15]
abbrev dktX8_init_0 : List UInt8 := dkwX8_init_0 ++ dktX8_init_1
theorem dksX8_init_0 : cX8_init.data.toList.drop 0 = dktX8_init_0 := by decide +kernel
theorem dksX8_init_1 : cX8_init.data.toList.drop 24 = dktX8_init_1 := dk_seg dksX8_init_0 24 rfl rfl
theorem dksX8_init_2 : cX8_init.data.toList.drop 46 = dktX8_init_2 := dk_seg dksX8_init_1 22 rfl rfl
theorem dX8_init_0 : decode cX8_init 0 = .ok (.aload_n 0, 1) := dk_42 (dk_at dksX8_init_0 0 rfl rfl)
theorem dX8_init_1 : decode cX8_init 1 = .ok (.invokespecial 3, 3) := dk_183 0 3 (dk_at dksX8_init_0 1 rfl rfl)
theorem dX8_init_4 : decode cX8_init 4 = .ok (.aload_n 0, 1) := dk_42 (dk_at dksX8_init_0 4 rfl rfl)
theorem dX8_init_5 : decode cX8_init 5 = .ok (.bipush 7, 2) := dk_16 7 (dk_at dksX8_init_0 5 rfl rfl)
theorem dX8_init_7 : decode cX8_init 7 = .ok (.anewarray 9, 3) := dk_189 0 9 (dk_at dksX8_init_0 7 rfl rfl)
theorem dX8_init_10 : decode cX8_init 10 = .ok (.dup, 1) := dk_89 (dk_at dksX8_init_0 10 rfl rfl)
theorem dX8_init_11 : decode cX8_init 11 = .ok (.iconst 0, 1) := dk_3 (dk_at dksX8_init_0 11 rfl rfl)
theorem dX8_init_12 : decode cX8_init 12 = .ok (.ldc 11, 2) := dk_18 11 (dk_at dksX8_init_0 12 rfl rfl)
theorem dX8_init_14 : decode cX8_init 14 = .ok (.aastore, 1) := dk_83 (dk_at dksX8_init_0 14 rfl rfl)
theorem dX8_init_15 : decode cX8_init 15 = .ok (.dup, 1) := dk_89 (dk_at dksX8_init_0 15 rfl rfl)
theorem dX8_init_16 : decode cX8_init 16 = .ok (.iconst 1, 1) := dk_4 (dk_at dksX8_init_0 16 rfl rfl)
theorem dX8_init_17 : decode cX8_init 17 = .ok (.ldc 13, 2) := dk_18 13 (dk_at dksX8_init_0 17 rfl rfl)
theorem dX8_init_19 : decode cX8_init 19 = .ok (.aastore, 1) := dk_83 (dk_at dksX8_init_0 19 rfl rfl)
theorem dX8_init_20 : decode cX8_init 20 = .ok (.dup, 1) := dk_89 (dk_at dksX8_init_0 20 rfl rfl)
theorem dX8_init_21 : decode cX8_init 21 = .ok (.iconst 2, 1) := dk_5 (dk_at dksX8_init_0 21 rfl rfl)
theorem dX8_init_22 : decode cX8_init 22 = .ok (.ldc 15, 2) := dk_18 15 (dk_at dksX8_init_0 22 rfl rfl)
theorem dX8_init_24 : decode cX8_init 24 = .ok (.aastore, 1) := dk_83 (dk_at dksX8_init_1 0 rfl rfl)
theorem dX8_init_25 : decode cX8_init 25 = .ok (.dup, 1) := dk_89 (dk_at dksX8_init_1 1 rfl rfl)
theorem dX8_init_26 : decode cX8_init 26 = .ok (.iconst 3, 1) := dk_6 (dk_at dksX8_init_1 2 rfl rfl)
theorem dX8_init_27 : decode cX8_init 27 = .ok (.ldc 17, 2) := dk_18 17 (dk_at dksX8_init_1 3 rfl rfl)
theorem dX8_init_29 : decode cX8_init 29 = .ok (.aastore, 1) := dk_83 (dk_at dksX8_init_1 5 rfl rfl)
theorem dX8_init_30 : decode cX8_init 30 = .ok (.dup, 1) := dk_89 (dk_at dksX8_init_1 6 rfl rfl)
theorem dX8_init_31 : decode cX8_init 31 = .ok (.iconst 4, 1) := dk_7 (dk_at dksX8_init_1 7 rfl rfl)
theorem dX8_init_32 : decode cX8_init 32 = .ok (.ldc 19, 2) := dk_18 19 (dk_at dksX8_init_1 8 rfl rfl)
theorem dX8_init_34 : decode cX8_init 34 = .ok (.aastore, 1) := dk_83 (dk_at dksX8_init_1 10 rfl rfl)
theorem dX8_init_35 : decode cX8_init 35 = .ok (.dup, 1) := dk_89 (dk_at dksX8_init_1 11 rfl rfl)
theorem dX8_init_36 : decode cX8_init 36 = .ok (.iconst 5, 1) := dk_8 (dk_at dksX8_init_1 12 rfl rfl)
theorem dX8_init_37 : decode cX8_init 37 = .ok (.ldc 21, 2) := dk_18 21 (dk_at dksX8_init_1 13 rfl rfl)
theorem dX8_init_39 : decode cX8_init 39 = .ok (.aastore, 1) := dk_83 (dk_at dksX8_init_1 15 rfl rfl)
theorem dX8_init_40 : decode cX8_init 40 = .ok (.dup, 1) := dk_89 (dk_at dksX8_init_1 16 rfl rfl)
theorem dX8_init_41 : decode cX8_init 41 = .ok (.bipush 6, 2) := dk_16 6 (dk_at dksX8_init_1 17 rfl rfl)
theorem dX8_init_43 : decode cX8_init 43 = .ok (.ldc 23, 2) := dk_18 23 (dk_at dksX8_init_1 19 rfl rfl)
theorem dX8_init_45 : decode cX8_init 45 = .ok (.aastore, 1) := dk_83 (dk_at dksX8_init_1 21 rfl rfl)
theorem dX8_init_46 : decode cX8_init 46 = .ok (.putfield 25, 3) := dk_181 0 25 (dk_at dksX8_init_2 0 rfl rfl)
theorem dX8_init_49 : decode cX8_init 49 = .ok (.aload_n 0, 1) := dk_42 (dk_at dksX8_init_2 3 rfl rfl)
theorem dX8_init_50 : decode cX8_init 50 = .ok (.aload_n 1, 1) := dk_43 (dk_at dksX8_init_2 4 rfl rfl)
theorem dX8_init_51 : decode cX8_init 51 = .ok (.putfield 31, 3) := dk_181 0 31 (dk_at dksX8_init_2 5 rfl rfl)
theorem dX8_init_54 : decode cX8_init 54 = .ok (.return_, 1) := dk_177 (dk_at dksX8_init_2 8 rfl rfl)
abbrev cX8_orders : ByteArray := prog_6_method_10_code
def yX8_orders : MethodName := ⟨RX8, "orders", "()Ljava/util/LinkedList;"⟩
def dkwX8_orders_2 : List UInt8 := [185, 0, 39, 1, 0, 160, 0, 7, 4, 167, 0, 4, 3, 182, 0, 63, 43, 176]
abbrev dktX8_orders_2 : List UInt8 := dkwX8_orders_2 ++ []
def dkwX8_orders_1 : List UInt8 := [153, 0, 14, 43, 42, 182, 0, 113, 182, 0, 117, 167, 255, 239, 42, 42, 180, 0, 35, 42, 180, 0, 31]
abbrev dktX8_orders_1 : List UInt8 := dkwX8_orders_1 ++ dktX8_orders_2
def dkwX8_orders_0 : List UInt8 := [187, 0, 110, 89, 183, 0, 112, 76, 43, 42, 182, 0, 113, 182, 0, 117, 42, 16, 59, 182, 0, 59]
abbrev dktX8_orders_0 : List UInt8 := dkwX8_orders_0 ++ dktX8_orders_1
theorem dksX8_orders_0 : cX8_orders.data.toList.drop 0 = dktX8_orders_0 := by decide +kernel
theorem dksX8_orders_1 : cX8_orders.data.toList.drop 22 = dktX8_orders_1 := dk_seg dksX8_orders_0 22 rfl rfl
theorem dksX8_orders_2 : cX8_orders.data.toList.drop 45 = dktX8_orders_2 := dk_seg dksX8_orders_1 23 rfl rfl
theorem dX8_orders_0 : decode cX8_orders 0 = .ok (.new 110, 3) := dk_187 0 110 (dk_at dksX8_orders_0 0 rfl rfl)
theorem dX8_orders_3 : decode cX8_orders 3 = .ok (.dup, 1) := dk_89 (dk_at dksX8_orders_0 3 rfl rfl)
theorem dX8_orders_4 : decode cX8_orders 4 = .ok (.invokespecial 112, 3) := dk_183 0 112 (dk_at dksX8_orders_0 4 rfl rfl)
theorem dX8_orders_7 : decode cX8_orders 7 = .ok (.astore_n 1, 1) := dk_76 (dk_at dksX8_orders_0 7 rfl rfl)
theorem dX8_orders_8 : decode cX8_orders 8 = .ok (.aload_n 1, 1) := dk_43 (dk_at dksX8_orders_0 8 rfl rfl)
theorem dX8_orders_9 : decode cX8_orders 9 = .ok (.aload_n 0, 1) := dk_42 (dk_at dksX8_orders_0 9 rfl rfl)
theorem dX8_orders_10 : decode cX8_orders 10 = .ok (.invokevirtual 113, 3) := dk_182 0 113 (dk_at dksX8_orders_0 10 rfl rfl)
theorem dX8_orders_13 : decode cX8_orders 13 = .ok (.invokevirtual 117, 3) := dk_182 0 117 (dk_at dksX8_orders_0 13 rfl rfl)
theorem dX8_orders_16 : decode cX8_orders 16 = .ok (.aload_n 0, 1) := dk_42 (dk_at dksX8_orders_0 16 rfl rfl)
theorem dX8_orders_17 : decode cX8_orders 17 = .ok (.bipush 59, 2) := dk_16 59 (dk_at dksX8_orders_0 17 rfl rfl)
theorem dX8_orders_19 : decode cX8_orders 19 = .ok (.invokevirtual 59, 3) := dk_182 0 59 (dk_at dksX8_orders_0 19 rfl rfl)
theorem dX8_orders_22 : decode cX8_orders 22 = .ok (.ifCond .eq 14, 3) := dk_153 0 14 (dk_at dksX8_orders_1 0 rfl rfl)
theorem dX8_orders_25 : decode cX8_orders 25 = .ok (.aload_n 1, 1) := dk_43 (dk_at dksX8_orders_1 3 rfl rfl)
theorem dX8_orders_26 : decode cX8_orders 26 = .ok (.aload_n 0, 1) := dk_42 (dk_at dksX8_orders_1 4 rfl rfl)
theorem dX8_orders_27 : decode cX8_orders 27 = .ok (.invokevirtual 113, 3) := dk_182 0 113 (dk_at dksX8_orders_1 5 rfl rfl)
theorem dX8_orders_30 : decode cX8_orders 30 = .ok (.invokevirtual 117, 3) := dk_182 0 117 (dk_at dksX8_orders_1 8 rfl rfl)
theorem dX8_orders_33 : decode cX8_orders 33 = .ok (.goto (-17), 3) := dk_167 255 239 (dk_at dksX8_orders_1 11 rfl rfl)
theorem dX8_orders_36 : decode cX8_orders 36 = .ok (.aload_n 0, 1) := dk_42 (dk_at dksX8_orders_1 14 rfl rfl)
theorem dX8_orders_37 : decode cX8_orders 37 = .ok (.aload_n 0, 1) := dk_42 (dk_at dksX8_orders_1 15 rfl rfl)
theorem dX8_orders_38 : decode cX8_orders 38 = .ok (.getfield 35, 3) := dk_180 0 35 (dk_at dksX8_orders_1 16 rfl rfl)
theorem dX8_orders_41 : decode cX8_orders 41 = .ok (.aload_n 0, 1) := dk_42 (dk_at dksX8_orders_1 19 rfl rfl)
theorem dX8_orders_42 : decode cX8_orders 42 = .ok (.getfield 31, 3) := dk_180 0 31 (dk_at dksX8_orders_1 20 rfl rfl)
theorem dX8_orders_45 : decode cX8_orders 45 = .ok (.invokeinterface 39 1, 5) := by decide +kernel
theorem dX8_orders_50 : decode cX8_orders 50 = .ok (.if_icmp .ne 7, 3) := dk_160 0 7 (dk_at dksX8_orders_2 5 rfl rfl)
theorem dX8_orders_53 : decode cX8_orders 53 = .ok (.iconst 1, 1) := dk_4 (dk_at dksX8_orders_2 8 rfl rfl)
theorem dX8_orders_54 : decode cX8_orders 54 = .ok (.goto 4, 3) := dk_167 0 4 (dk_at dksX8_orders_2 9 rfl rfl)
theorem dX8_orders_57 : decode cX8_orders 57 = .ok (.iconst 0, 1) := dk_3 (dk_at dksX8_orders_2 12 rfl rfl)
theorem dX8_orders_58 : decode cX8_orders 58 = .ok (.invokevirtual 63, 3) := dk_182 0 63 (dk_at dksX8_orders_2 13 rfl rfl)
theorem dX8_orders_61 : decode cX8_orders 61 = .ok (.aload_n 1, 1) := dk_43 (dk_at dksX8_orders_2 16 rfl rfl)
theorem dX8_orders_62 : decode cX8_orders 62 = .ok (.areturn, 1) := dk_176 (dk_at dksX8_orders_2 17 rfl rfl)
abbrev cX8_order : ByteArray := prog_6_method_9_code
def yX8_order : MethodName := ⟨RX8, "order", "()LBrushSellers$Order;"⟩
def dkwX8_order_10 : List UInt8 := [181, 0, 94, 167, 0, 15, 167, 0, 12, 43, 42, 4, 182, 0, 71, 181, 0, 94, 43, 176]
abbrev dktX8_order_10 : List UInt8 := dkwX8_order_10 ++ []
def dkwX8_order_9 : List UInt8 := [182, 0, 97, 181, 0, 101, 43, 42, 182, 0, 107, 181, 0, 104, 167, 0, 27, 43, 42, 5, 182, 0, 71]
abbrev dktX8_order_9 : List UInt8 := dkwX8_order_9 ++ dktX8_order_10
def dkwX8_order_8 : List UInt8 := [182, 0, 97, 181, 0, 104, 167, 0, 58, 43, 42, 4, 182, 0, 71, 181, 0, 94, 43, 42, 16, 32, 4]
abbrev dktX8_order_8 : List UInt8 := dkwX8_order_8 ++ dktX8_order_9
def dkwX8_order_7 : List UInt8 := [42, 4, 182, 0, 71, 181, 0, 94, 43, 42, 16, 32, 4, 182, 0, 97, 181, 0, 101, 43, 42, 16, 61, 5]
abbrev dktX8_order_7 : List UInt8 := dkwX8_order_7 ++ dktX8_order_8
def dkwX8_order_6 : List UInt8 := [43, 42, 4, 182, 0, 71, 181, 0, 94, 43, 42, 16, 62, 5, 182, 0, 97, 181, 0, 101, 167, 0, 92, 43]
abbrev dktX8_order_6 : List UInt8 := dkwX8_order_6 ++ dktX8_order_7
def dkwX8_order_5 : List UInt8 := [170, 0, 0, 0, 0, 0, 0, 139, 0, 0, 0, 0, 0, 0, 0, 4, 0, 0, 0, 36, 0, 0, 0, 59, 0, 0, 0, 93, 0, 0, 0, 124, 0, 0, 0, 136]
abbrev dktX8_order_5 : List UInt8 := dkwX8_order_5 ++ dktX8_order_6
def dkwX8_order_4 : List UInt8 := [153, 0, 19, 6, 62, 167, 0, 14, 44, 18, 23, 182, 0, 90, 153, 0, 5, 7, 62, 29]
abbrev dktX8_order_4 : List UInt8 := dkwX8_order_4 ++ dktX8_order_5
def dkwX8_order_3 : List UInt8 := [62, 167, 0, 42, 44, 18, 17, 182, 0, 90, 153, 0, 33, 5, 62, 167, 0, 28, 44, 18, 19, 182, 0, 90]
abbrev dktX8_order_3 : List UInt8 := dkwX8_order_3 ++ dktX8_order_4
def dkwX8_order_2 : List UInt8 := [44, 18, 11, 182, 0, 90, 153, 0, 61, 3, 62, 167, 0, 56, 44, 18, 13, 182, 0, 90, 153, 0, 47, 4]
abbrev dktX8_order_2 : List UInt8 := dkwX8_order_2 ++ dktX8_order_3
def dkwX8_order_1 : List UInt8 := [171, 0, 0, 0, 116, 0, 0, 0, 5, 0, 1, 131, 156, 0, 0, 0, 105, 0, 1, 144, 56, 0, 0, 0, 49, 5, 146, 152, 25, 0, 0, 0, 91, 6, 119, 219, 240, 0, 0, 0, 63, 6, 144, 92, 121, 0, 0, 0, 77]
abbrev dktX8_order_1 : List UInt8 := dkwX8_order_1 ++ dktX8_order_2
def dkwX8_order_0 : List UInt8 := [187, 0, 75, 89, 42, 182, 0, 77, 183, 0, 81, 76, 43, 180, 0, 84, 77, 2, 62, 44, 182, 0, 87]
abbrev dktX8_order_0 : List UInt8 := dkwX8_order_0 ++ dktX8_order_1
theorem dksX8_order_0 : cX8_order.data.toList.drop 0 = dktX8_order_0 := by decide +kernel
theorem dksX8_order_1 : cX8_order.data.toList.drop 23 = dktX8_order_1 := dk_seg dksX8_order_0 23 rfl rfl
theorem dksX8_order_2 : cX8_order.data.toList.drop 72 = dktX8_order_2 := dk_seg dksX8_order_1 49 rfl rfl
theorem dksX8_order_3 : cX8_order.data.toList.drop 96 = dktX8_order_3 := dk_seg dksX8_order_2 24 rfl rfl
theorem dksX8_order_4 : cX8_order.data.toList.drop 120 = dktX8_order_4 := dk_seg dksX8_order_3 24 rfl rfl
theorem dksX8_order_5 : cX8_order.data.toList.drop 140 = dktX8_order_5 := dk_seg dksX8_order_4 20 rfl rfl
theorem dksX8_order_6 : cX8_order.data.toList.drop 176 = dktX8_order_6 := dk_seg dksX8_order_5 36 rfl rfl
theorem dksX8_order_7 : cX8_order.data.toList.drop 200 = dktX8_order_7 := dk_seg dksX8_order_6 24 rfl rfl
theorem dksX8_order_8 : cX8_order.data.toList.drop 224 = dktX8_order_8 := dk_seg dksX8_order_7 24 rfl rfl
theorem dksX8_order_9 : cX8_order.data.toList.drop 247 = dktX8_order_9 := dk_seg dksX8_order_8 23 rfl rfl
theorem dksX8_order_10 : cX8_order.data.toList.drop 270 = dktX8_order_10 := dk_seg dksX8_order_9 23 rfl rfl
theorem dX8_order_0 : decode cX8_order 0 = .ok (.new 75, 3) := dk_187 0 75 (dk_at dksX8_order_0 0 rfl rfl)
theorem dX8_order_3 : decode cX8_order 3 = .ok (.dup, 1) := dk_89 (dk_at dksX8_order_0 3 rfl rfl)
theorem dX8_order_4 : decode cX8_order 4 = .ok (.aload_n 0, 1) := dk_42 (dk_at dksX8_order_0 4 rfl rfl)
theorem dX8_order_5 : decode cX8_order 5 = .ok (.invokevirtual 77, 3) := dk_182 0 77 (dk_at dksX8_order_0 5 rfl rfl)
theorem dX8_order_8 : decode cX8_order 8 = .ok (.invokespecial 81, 3) := dk_183 0 81 (dk_at dksX8_order_0 8 rfl rfl)
theorem dX8_order_11 : decode cX8_order 11 = .ok (.astore_n 1, 1) := dk_76 (dk_at dksX8_order_0 11 rfl rfl)
theorem dX8_order_12 : decode cX8_order 12 = .ok (.aload_n 1, 1) := dk_43 (dk_at dksX8_order_0 12 rfl rfl)
theorem dX8_order_13 : decode cX8_order 13 = .ok (.getfield 84, 3) := dk_180 0 84 (dk_at dksX8_order_0 13 rfl rfl)
theorem dX8_order_16 : decode cX8_order 16 = .ok (.astore_n 2, 1) := dk_77 (dk_at dksX8_order_0 16 rfl rfl)
theorem dX8_order_17 : decode cX8_order 17 = .ok (.iconst (-1), 1) := dk_2 (dk_at dksX8_order_0 17 rfl rfl)
theorem dX8_order_18 : decode cX8_order 18 = .ok (.istore_n 3, 1) := dk_62 (dk_at dksX8_order_0 18 rfl rfl)
theorem dX8_order_19 : decode cX8_order 19 = .ok (.aload_n 2, 1) := dk_44 (dk_at dksX8_order_0 19 rfl rfl)
theorem dX8_order_20 : decode cX8_order 20 = .ok (.invokevirtual 87, 3) := dk_182 0 87 (dk_at dksX8_order_0 20 rfl rfl)
theorem dX8_order_23 : decode cX8_order 23 = .ok (.lookupswitch 116 #[(99228, 105), (102456, 49), (93493273, 91), (108518384, 63), (110124153, 77)], 49) := by decide +kernel
theorem dX8_order_72 : decode cX8_order 72 = .ok (.aload_n 2, 1) := dk_44 (dk_at dksX8_order_2 0 rfl rfl)
theorem dX8_order_73 : decode cX8_order 73 = .ok (.ldc 11, 2) := dk_18 11 (dk_at dksX8_order_2 1 rfl rfl)
theorem dX8_order_75 : decode cX8_order 75 = .ok (.invokevirtual 90, 3) := dk_182 0 90 (dk_at dksX8_order_2 3 rfl rfl)
theorem dX8_order_78 : decode cX8_order 78 = .ok (.ifCond .eq 61, 3) := dk_153 0 61 (dk_at dksX8_order_2 6 rfl rfl)
theorem dX8_order_81 : decode cX8_order 81 = .ok (.iconst 0, 1) := dk_3 (dk_at dksX8_order_2 9 rfl rfl)
theorem dX8_order_82 : decode cX8_order 82 = .ok (.istore_n 3, 1) := dk_62 (dk_at dksX8_order_2 10 rfl rfl)
theorem dX8_order_83 : decode cX8_order 83 = .ok (.goto 56, 3) := dk_167 0 56 (dk_at dksX8_order_2 11 rfl rfl)
theorem dX8_order_86 : decode cX8_order 86 = .ok (.aload_n 2, 1) := dk_44 (dk_at dksX8_order_2 14 rfl rfl)
theorem dX8_order_87 : decode cX8_order 87 = .ok (.ldc 13, 2) := dk_18 13 (dk_at dksX8_order_2 15 rfl rfl)
theorem dX8_order_89 : decode cX8_order 89 = .ok (.invokevirtual 90, 3) := dk_182 0 90 (dk_at dksX8_order_2 17 rfl rfl)
theorem dX8_order_92 : decode cX8_order 92 = .ok (.ifCond .eq 47, 3) := dk_153 0 47 (dk_at dksX8_order_2 20 rfl rfl)
theorem dX8_order_95 : decode cX8_order 95 = .ok (.iconst 1, 1) := dk_4 (dk_at dksX8_order_2 23 rfl rfl)
theorem dX8_order_96 : decode cX8_order 96 = .ok (.istore_n 3, 1) := dk_62 (dk_at dksX8_order_3 0 rfl rfl)
theorem dX8_order_97 : decode cX8_order 97 = .ok (.goto 42, 3) := dk_167 0 42 (dk_at dksX8_order_3 1 rfl rfl)
theorem dX8_order_100 : decode cX8_order 100 = .ok (.aload_n 2, 1) := dk_44 (dk_at dksX8_order_3 4 rfl rfl)
theorem dX8_order_101 : decode cX8_order 101 = .ok (.ldc 17, 2) := dk_18 17 (dk_at dksX8_order_3 5 rfl rfl)
theorem dX8_order_103 : decode cX8_order 103 = .ok (.invokevirtual 90, 3) := dk_182 0 90 (dk_at dksX8_order_3 7 rfl rfl)
theorem dX8_order_106 : decode cX8_order 106 = .ok (.ifCond .eq 33, 3) := dk_153 0 33 (dk_at dksX8_order_3 10 rfl rfl)
theorem dX8_order_109 : decode cX8_order 109 = .ok (.iconst 2, 1) := dk_5 (dk_at dksX8_order_3 13 rfl rfl)
theorem dX8_order_110 : decode cX8_order 110 = .ok (.istore_n 3, 1) := dk_62 (dk_at dksX8_order_3 14 rfl rfl)
theorem dX8_order_111 : decode cX8_order 111 = .ok (.goto 28, 3) := dk_167 0 28 (dk_at dksX8_order_3 15 rfl rfl)
theorem dX8_order_114 : decode cX8_order 114 = .ok (.aload_n 2, 1) := dk_44 (dk_at dksX8_order_3 18 rfl rfl)
theorem dX8_order_115 : decode cX8_order 115 = .ok (.ldc 19, 2) := dk_18 19 (dk_at dksX8_order_3 19 rfl rfl)
theorem dX8_order_117 : decode cX8_order 117 = .ok (.invokevirtual 90, 3) := dk_182 0 90 (dk_at dksX8_order_3 21 rfl rfl)
theorem dX8_order_120 : decode cX8_order 120 = .ok (.ifCond .eq 19, 3) := dk_153 0 19 (dk_at dksX8_order_4 0 rfl rfl)
theorem dX8_order_123 : decode cX8_order 123 = .ok (.iconst 3, 1) := dk_6 (dk_at dksX8_order_4 3 rfl rfl)
theorem dX8_order_124 : decode cX8_order 124 = .ok (.istore_n 3, 1) := dk_62 (dk_at dksX8_order_4 4 rfl rfl)
theorem dX8_order_125 : decode cX8_order 125 = .ok (.goto 14, 3) := dk_167 0 14 (dk_at dksX8_order_4 5 rfl rfl)
theorem dX8_order_128 : decode cX8_order 128 = .ok (.aload_n 2, 1) := dk_44 (dk_at dksX8_order_4 8 rfl rfl)
theorem dX8_order_129 : decode cX8_order 129 = .ok (.ldc 23, 2) := dk_18 23 (dk_at dksX8_order_4 9 rfl rfl)
theorem dX8_order_131 : decode cX8_order 131 = .ok (.invokevirtual 90, 3) := dk_182 0 90 (dk_at dksX8_order_4 11 rfl rfl)
theorem dX8_order_134 : decode cX8_order 134 = .ok (.ifCond .eq 5, 3) := dk_153 0 5 (dk_at dksX8_order_4 14 rfl rfl)
theorem dX8_order_137 : decode cX8_order 137 = .ok (.iconst 4, 1) := dk_7 (dk_at dksX8_order_4 17 rfl rfl)
theorem dX8_order_138 : decode cX8_order 138 = .ok (.istore_n 3, 1) := dk_62 (dk_at dksX8_order_4 18 rfl rfl)
theorem dX8_order_139 : decode cX8_order 139 = .ok (.iload_n 3, 1) := dk_29 (dk_at dksX8_order_4 19 rfl rfl)
theorem dX8_order_140 : decode cX8_order 140 = .ok (.tableswitch 139 0 4 #[36, 59, 93, 124, 136], 36) := by decide +kernel
theorem dX8_order_176 : decode cX8_order 176 = .ok (.aload_n 1, 1) := dk_43 (dk_at dksX8_order_6 0 rfl rfl)
theorem dX8_order_177 : decode cX8_order 177 = .ok (.aload_n 0, 1) := dk_42 (dk_at dksX8_order_6 1 rfl rfl)
theorem dX8_order_178 : decode cX8_order 178 = .ok (.iconst 1, 1) := dk_4 (dk_at dksX8_order_6 2 rfl rfl)
theorem dX8_order_179 : decode cX8_order 179 = .ok (.invokevirtual 71, 3) := dk_182 0 71 (dk_at dksX8_order_6 3 rfl rfl)
theorem dX8_order_182 : decode cX8_order 182 = .ok (.putfield 94, 3) := dk_181 0 94 (dk_at dksX8_order_6 6 rfl rfl)
theorem dX8_order_185 : decode cX8_order 185 = .ok (.aload_n 1, 1) := dk_43 (dk_at dksX8_order_6 9 rfl rfl)
theorem dX8_order_186 : decode cX8_order 186 = .ok (.aload_n 0, 1) := dk_42 (dk_at dksX8_order_6 10 rfl rfl)
theorem dX8_order_187 : decode cX8_order 187 = .ok (.bipush 62, 2) := dk_16 62 (dk_at dksX8_order_6 11 rfl rfl)
theorem dX8_order_189 : decode cX8_order 189 = .ok (.iconst 2, 1) := dk_5 (dk_at dksX8_order_6 13 rfl rfl)
theorem dX8_order_190 : decode cX8_order 190 = .ok (.invokevirtual 97, 3) := dk_182 0 97 (dk_at dksX8_order_6 14 rfl rfl)
theorem dX8_order_193 : decode cX8_order 193 = .ok (.putfield 101, 3) := dk_181 0 101 (dk_at dksX8_order_6 17 rfl rfl)
theorem dX8_order_196 : decode cX8_order 196 = .ok (.goto 92, 3) := dk_167 0 92 (dk_at dksX8_order_6 20 rfl rfl)
theorem dX8_order_199 : decode cX8_order 199 = .ok (.aload_n 1, 1) := dk_43 (dk_at dksX8_order_6 23 rfl rfl)
theorem dX8_order_200 : decode cX8_order 200 = .ok (.aload_n 0, 1) := dk_42 (dk_at dksX8_order_7 0 rfl rfl)
theorem dX8_order_201 : decode cX8_order 201 = .ok (.iconst 1, 1) := dk_4 (dk_at dksX8_order_7 1 rfl rfl)
theorem dX8_order_202 : decode cX8_order 202 = .ok (.invokevirtual 71, 3) := dk_182 0 71 (dk_at dksX8_order_7 2 rfl rfl)
theorem dX8_order_205 : decode cX8_order 205 = .ok (.putfield 94, 3) := dk_181 0 94 (dk_at dksX8_order_7 5 rfl rfl)
theorem dX8_order_208 : decode cX8_order 208 = .ok (.aload_n 1, 1) := dk_43 (dk_at dksX8_order_7 8 rfl rfl)
theorem dX8_order_209 : decode cX8_order 209 = .ok (.aload_n 0, 1) := dk_42 (dk_at dksX8_order_7 9 rfl rfl)
theorem dX8_order_210 : decode cX8_order 210 = .ok (.bipush 32, 2) := dk_16 32 (dk_at dksX8_order_7 10 rfl rfl)
theorem dX8_order_212 : decode cX8_order 212 = .ok (.iconst 1, 1) := dk_4 (dk_at dksX8_order_7 12 rfl rfl)
theorem dX8_order_213 : decode cX8_order 213 = .ok (.invokevirtual 97, 3) := dk_182 0 97 (dk_at dksX8_order_7 13 rfl rfl)
theorem dX8_order_216 : decode cX8_order 216 = .ok (.putfield 101, 3) := dk_181 0 101 (dk_at dksX8_order_7 16 rfl rfl)
theorem dX8_order_219 : decode cX8_order 219 = .ok (.aload_n 1, 1) := dk_43 (dk_at dksX8_order_7 19 rfl rfl)
theorem dX8_order_220 : decode cX8_order 220 = .ok (.aload_n 0, 1) := dk_42 (dk_at dksX8_order_7 20 rfl rfl)
theorem dX8_order_221 : decode cX8_order 221 = .ok (.bipush 61, 2) := dk_16 61 (dk_at dksX8_order_7 21 rfl rfl)
theorem dX8_order_223 : decode cX8_order 223 = .ok (.iconst 2, 1) := dk_5 (dk_at dksX8_order_7 23 rfl rfl)
theorem dX8_order_224 : decode cX8_order 224 = .ok (.invokevirtual 97, 3) := dk_182 0 97 (dk_at dksX8_order_8 0 rfl rfl)
theorem dX8_order_227 : decode cX8_order 227 = .ok (.putfield 104, 3) := dk_181 0 104 (dk_at dksX8_order_8 3 rfl rfl)
theorem dX8_order_230 : decode cX8_order 230 = .ok (.goto 58, 3) := dk_167 0 58 (dk_at dksX8_order_8 6 rfl rfl)
theorem dX8_order_233 : decode cX8_order 233 = .ok (.aload_n 1, 1) := dk_43 (dk_at dksX8_order_8 9 rfl rfl)
theorem dX8_order_234 : decode cX8_order 234 = .ok (.aload_n 0, 1) := dk_42 (dk_at dksX8_order_8 10 rfl rfl)
theorem dX8_order_235 : decode cX8_order 235 = .ok (.iconst 1, 1) := dk_4 (dk_at dksX8_order_8 11 rfl rfl)
theorem dX8_order_236 : decode cX8_order 236 = .ok (.invokevirtual 71, 3) := dk_182 0 71 (dk_at dksX8_order_8 12 rfl rfl)
theorem dX8_order_239 : decode cX8_order 239 = .ok (.putfield 94, 3) := dk_181 0 94 (dk_at dksX8_order_8 15 rfl rfl)
theorem dX8_order_242 : decode cX8_order 242 = .ok (.aload_n 1, 1) := dk_43 (dk_at dksX8_order_8 18 rfl rfl)
theorem dX8_order_243 : decode cX8_order 243 = .ok (.aload_n 0, 1) := dk_42 (dk_at dksX8_order_8 19 rfl rfl)
theorem dX8_order_244 : decode cX8_order 244 = .ok (.bipush 32, 2) := dk_16 32 (dk_at dksX8_order_8 20 rfl rfl)
theorem dX8_order_246 : decode cX8_order 246 = .ok (.iconst 1, 1) := dk_4 (dk_at dksX8_order_8 22 rfl rfl)
theorem dX8_order_247 : decode cX8_order 247 = .ok (.invokevirtual 97, 3) := dk_182 0 97 (dk_at dksX8_order_9 0 rfl rfl)
theorem dX8_order_250 : decode cX8_order 250 = .ok (.putfield 101, 3) := dk_181 0 101 (dk_at dksX8_order_9 3 rfl rfl)
theorem dX8_order_253 : decode cX8_order 253 = .ok (.aload_n 1, 1) := dk_43 (dk_at dksX8_order_9 6 rfl rfl)
theorem dX8_order_254 : decode cX8_order 254 = .ok (.aload_n 0, 1) := dk_42 (dk_at dksX8_order_9 7 rfl rfl)
theorem dX8_order_255 : decode cX8_order 255 = .ok (.invokevirtual 107, 3) := dk_182 0 107 (dk_at dksX8_order_9 8 rfl rfl)
theorem dX8_order_258 : decode cX8_order 258 = .ok (.putfield 104, 3) := dk_181 0 104 (dk_at dksX8_order_9 11 rfl rfl)
theorem dX8_order_261 : decode cX8_order 261 = .ok (.goto 27, 3) := dk_167 0 27 (dk_at dksX8_order_9 14 rfl rfl)
theorem dX8_order_264 : decode cX8_order 264 = .ok (.aload_n 1, 1) := dk_43 (dk_at dksX8_order_9 17 rfl rfl)
theorem dX8_order_265 : decode cX8_order 265 = .ok (.aload_n 0, 1) := dk_42 (dk_at dksX8_order_9 18 rfl rfl)
theorem dX8_order_266 : decode cX8_order 266 = .ok (.iconst 2, 1) := dk_5 (dk_at dksX8_order_9 19 rfl rfl)
theorem dX8_order_267 : decode cX8_order 267 = .ok (.invokevirtual 71, 3) := dk_182 0 71 (dk_at dksX8_order_9 20 rfl rfl)
theorem dX8_order_270 : decode cX8_order 270 = .ok (.putfield 94, 3) := dk_181 0 94 (dk_at dksX8_order_10 0 rfl rfl)
theorem dX8_order_273 : decode cX8_order 273 = .ok (.goto 15, 3) := dk_167 0 15 (dk_at dksX8_order_10 3 rfl rfl)
theorem dX8_order_276 : decode cX8_order 276 = .ok (.goto 12, 3) := dk_167 0 12 (dk_at dksX8_order_10 6 rfl rfl)
theorem dX8_order_279 : decode cX8_order 279 = .ok (.aload_n 1, 1) := dk_43 (dk_at dksX8_order_10 9 rfl rfl)
theorem dX8_order_280 : decode cX8_order 280 = .ok (.aload_n 0, 1) := dk_42 (dk_at dksX8_order_10 10 rfl rfl)
theorem dX8_order_281 : decode cX8_order 281 = .ok (.iconst 1, 1) := dk_4 (dk_at dksX8_order_10 11 rfl rfl)
theorem dX8_order_282 : decode cX8_order 282 = .ok (.invokevirtual 71, 3) := dk_182 0 71 (dk_at dksX8_order_10 12 rfl rfl)
theorem dX8_order_285 : decode cX8_order 285 = .ok (.putfield 94, 3) := dk_181 0 94 (dk_at dksX8_order_10 15 rfl rfl)
theorem dX8_order_288 : decode cX8_order 288 = .ok (.aload_n 1, 1) := dk_43 (dk_at dksX8_order_10 18 rfl rfl)
theorem dX8_order_289 : decode cX8_order 289 = .ok (.areturn, 1) := dk_176 (dk_at dksX8_order_10 19 rfl rfl)
abbrev cX8_word : ByteArray := prog_6_method_5_code
def yX8_word : MethodName := ⟨RX8, "word", "()Ljava/lang/String;"⟩
def dkwX8_word_3 : List UInt8 := [25, 4, 176, 132, 3, 1, 167, 255, 190, 187, 0, 49, 89, 42, 180, 0, 35, 183, 0, 51, 191]
abbrev dktX8_word_3 : List UInt8 := dkwX8_word_3 ++ []
def dkwX8_word_2 : List UInt8 := [162, 0, 24, 42, 42, 25, 4, 21, 5, 182, 0, 57, 182, 0, 59, 182, 0, 63, 132, 5, 1, 167, 255, 228]
abbrev dktX8_word_2 : List UInt8 := dkwX8_word_2 ++ dktX8_word_3
def dkwX8_word_1 : List UInt8 := [25, 4, 3, 182, 0, 57, 159, 0, 6, 167, 0, 40, 3, 54, 5, 21, 5, 25, 4, 182, 0, 58]
abbrev dktX8_word_1 : List UInt8 := dkwX8_word_1 ++ dktX8_word_2
def dkwX8_word_0 : List UInt8 := [42, 180, 0, 25, 76, 43, 190, 61, 3, 62, 29, 28, 162, 0, 67, 43, 29, 50, 58, 4, 42, 182, 0, 54]
abbrev dktX8_word_0 : List UInt8 := dkwX8_word_0 ++ dktX8_word_1
theorem dksX8_word_0 : cX8_word.data.toList.drop 0 = dktX8_word_0 := by decide +kernel
theorem dksX8_word_1 : cX8_word.data.toList.drop 24 = dktX8_word_1 := dk_seg dksX8_word_0 24 rfl rfl
theorem dksX8_word_2 : cX8_word.data.toList.drop 46 = dktX8_word_2 := dk_seg dksX8_word_1 22 rfl rfl
theorem dksX8_word_3 : cX8_word.data.toList.drop 70 = dktX8_word_3 := dk_seg dksX8_word_2 24 rfl rfl
theorem dX8_word_0 : decode cX8_word 0 = .ok (.aload_n 0, 1) := dk_42 (dk_at dksX8_word_0 0 rfl rfl)
theorem dX8_word_1 : decode cX8_word 1 = .ok (.getfield 25, 3) := dk_180 0 25 (dk_at dksX8_word_0 1 rfl rfl)
theorem dX8_word_4 : decode cX8_word 4 = .ok (.astore_n 1, 1) := dk_76 (dk_at dksX8_word_0 4 rfl rfl)
theorem dX8_word_5 : decode cX8_word 5 = .ok (.aload_n 1, 1) := dk_43 (dk_at dksX8_word_0 5 rfl rfl)
theorem dX8_word_6 : decode cX8_word 6 = .ok (.arraylength, 1) := dk_190 (dk_at dksX8_word_0 6 rfl rfl)
theorem dX8_word_7 : decode cX8_word 7 = .ok (.istore_n 2, 1) := dk_61 (dk_at dksX8_word_0 7 rfl rfl)
theorem dX8_word_8 : decode cX8_word 8 = .ok (.iconst 0, 1) := dk_3 (dk_at dksX8_word_0 8 rfl rfl)
theorem dX8_word_9 : decode cX8_word 9 = .ok (.istore_n 3, 1) := dk_62 (dk_at dksX8_word_0 9 rfl rfl)
theorem dX8_word_10 : decode cX8_word 10 = .ok (.iload_n 3, 1) := dk_29 (dk_at dksX8_word_0 10 rfl rfl)
theorem dX8_word_11 : decode cX8_word 11 = .ok (.iload_n 2, 1) := dk_28 (dk_at dksX8_word_0 11 rfl rfl)
theorem dX8_word_12 : decode cX8_word 12 = .ok (.if_icmp .ge 67, 3) := dk_162 0 67 (dk_at dksX8_word_0 12 rfl rfl)
theorem dX8_word_15 : decode cX8_word 15 = .ok (.aload_n 1, 1) := dk_43 (dk_at dksX8_word_0 15 rfl rfl)
theorem dX8_word_16 : decode cX8_word 16 = .ok (.iload_n 3, 1) := dk_29 (dk_at dksX8_word_0 16 rfl rfl)
theorem dX8_word_17 : decode cX8_word 17 = .ok (.aaload, 1) := dk_50 (dk_at dksX8_word_0 17 rfl rfl)
theorem dX8_word_18 : decode cX8_word 18 = .ok (.astore 4, 2) := dk_58 4 (dk_at dksX8_word_0 18 rfl rfl)
theorem dX8_word_20 : decode cX8_word 20 = .ok (.aload_n 0, 1) := dk_42 (dk_at dksX8_word_0 20 rfl rfl)
theorem dX8_word_21 : decode cX8_word 21 = .ok (.invokevirtual 54, 3) := dk_182 0 54 (dk_at dksX8_word_0 21 rfl rfl)
theorem dX8_word_24 : decode cX8_word 24 = .ok (.aload 4, 2) := dk_25 4 (dk_at dksX8_word_1 0 rfl rfl)
theorem dX8_word_26 : decode cX8_word 26 = .ok (.iconst 0, 1) := dk_3 (dk_at dksX8_word_1 2 rfl rfl)
theorem dX8_word_27 : decode cX8_word 27 = .ok (.invokevirtual 57, 3) := dk_182 0 57 (dk_at dksX8_word_1 3 rfl rfl)
theorem dX8_word_30 : decode cX8_word 30 = .ok (.if_icmp .eq 6, 3) := dk_159 0 6 (dk_at dksX8_word_1 6 rfl rfl)
theorem dX8_word_33 : decode cX8_word 33 = .ok (.goto 40, 3) := dk_167 0 40 (dk_at dksX8_word_1 9 rfl rfl)
theorem dX8_word_36 : decode cX8_word 36 = .ok (.iconst 0, 1) := dk_3 (dk_at dksX8_word_1 12 rfl rfl)
theorem dX8_word_37 : decode cX8_word 37 = .ok (.istore 5, 2) := dk_54 5 (dk_at dksX8_word_1 13 rfl rfl)
theorem dX8_word_39 : decode cX8_word 39 = .ok (.iload 5, 2) := dk_21 5 (dk_at dksX8_word_1 15 rfl rfl)
theorem dX8_word_41 : decode cX8_word 41 = .ok (.aload 4, 2) := dk_25 4 (dk_at dksX8_word_1 17 rfl rfl)
theorem dX8_word_43 : decode cX8_word 43 = .ok (.invokevirtual 58, 3) := dk_182 0 58 (dk_at dksX8_word_1 19 rfl rfl)
theorem dX8_word_46 : decode cX8_word 46 = .ok (.if_icmp .ge 24, 3) := dk_162 0 24 (dk_at dksX8_word_2 0 rfl rfl)
theorem dX8_word_49 : decode cX8_word 49 = .ok (.aload_n 0, 1) := dk_42 (dk_at dksX8_word_2 3 rfl rfl)
theorem dX8_word_50 : decode cX8_word 50 = .ok (.aload_n 0, 1) := dk_42 (dk_at dksX8_word_2 4 rfl rfl)
theorem dX8_word_51 : decode cX8_word 51 = .ok (.aload 4, 2) := dk_25 4 (dk_at dksX8_word_2 5 rfl rfl)
theorem dX8_word_53 : decode cX8_word 53 = .ok (.iload 5, 2) := dk_21 5 (dk_at dksX8_word_2 7 rfl rfl)
theorem dX8_word_55 : decode cX8_word 55 = .ok (.invokevirtual 57, 3) := dk_182 0 57 (dk_at dksX8_word_2 9 rfl rfl)
theorem dX8_word_58 : decode cX8_word 58 = .ok (.invokevirtual 59, 3) := dk_182 0 59 (dk_at dksX8_word_2 12 rfl rfl)
theorem dX8_word_61 : decode cX8_word 61 = .ok (.invokevirtual 63, 3) := dk_182 0 63 (dk_at dksX8_word_2 15 rfl rfl)
theorem dX8_word_64 : decode cX8_word 64 = .ok (.iinc 5 1, 3) := dk_132 5 1 (dk_at dksX8_word_2 18 rfl rfl)
theorem dX8_word_67 : decode cX8_word 67 = .ok (.goto (-28), 3) := dk_167 255 228 (dk_at dksX8_word_2 21 rfl rfl)
theorem dX8_word_70 : decode cX8_word 70 = .ok (.aload 4, 2) := dk_25 4 (dk_at dksX8_word_3 0 rfl rfl)
theorem dX8_word_72 : decode cX8_word 72 = .ok (.areturn, 1) := dk_176 (dk_at dksX8_word_3 2 rfl rfl)
theorem dX8_word_73 : decode cX8_word 73 = .ok (.iinc 3 1, 3) := dk_132 3 1 (dk_at dksX8_word_3 3 rfl rfl)
theorem dX8_word_76 : decode cX8_word 76 = .ok (.goto (-66), 3) := dk_167 255 190 (dk_at dksX8_word_3 6 rfl rfl)
theorem dX8_word_79 : decode cX8_word 79 = .ok (.new 49, 3) := dk_187 0 49 (dk_at dksX8_word_3 9 rfl rfl)
theorem dX8_word_82 : decode cX8_word 82 = .ok (.dup, 1) := dk_89 (dk_at dksX8_word_3 12 rfl rfl)
theorem dX8_word_83 : decode cX8_word 83 = .ok (.aload_n 0, 1) := dk_42 (dk_at dksX8_word_3 13 rfl rfl)
theorem dX8_word_84 : decode cX8_word 84 = .ok (.getfield 35, 3) := dk_180 0 35 (dk_at dksX8_word_3 14 rfl rfl)
theorem dX8_word_87 : decode cX8_word 87 = .ok (.invokespecial 51, 3) := dk_183 0 51 (dk_at dksX8_word_3 17 rfl rfl)
theorem dX8_word_90 : decode cX8_word 90 = .ok (.athrow, 1) := dk_191 (dk_at dksX8_word_3 20 rfl rfl)
abbrev cX8_here : ByteArray := prog_6_method_2_code
def yX8_here : MethodName := ⟨RX8, "here", "()I"⟩
def dkwX8_here_1 : List UInt8 := [185, 0, 45, 2, 0, 167, 0, 5, 16, 245, 172]
abbrev dktX8_here_1 : List UInt8 := dkwX8_here_1 ++ []
def dkwX8_here_0 : List UInt8 := [42, 180, 0, 35, 42, 180, 0, 31, 185, 0, 39, 1, 0, 162, 0, 19, 42, 180, 0, 31, 42, 180, 0, 35]
abbrev dktX8_here_0 : List UInt8 := dkwX8_here_0 ++ dktX8_here_1
theorem dksX8_here_0 : cX8_here.data.toList.drop 0 = dktX8_here_0 := by decide +kernel
theorem dksX8_here_1 : cX8_here.data.toList.drop 24 = dktX8_here_1 := dk_seg dksX8_here_0 24 rfl rfl
theorem dX8_here_0 : decode cX8_here 0 = .ok (.aload_n 0, 1) := dk_42 (dk_at dksX8_here_0 0 rfl rfl)
theorem dX8_here_1 : decode cX8_here 1 = .ok (.getfield 35, 3) := dk_180 0 35 (dk_at dksX8_here_0 1 rfl rfl)
theorem dX8_here_4 : decode cX8_here 4 = .ok (.aload_n 0, 1) := dk_42 (dk_at dksX8_here_0 4 rfl rfl)
theorem dX8_here_5 : decode cX8_here 5 = .ok (.getfield 31, 3) := dk_180 0 31 (dk_at dksX8_here_0 5 rfl rfl)
theorem dX8_here_8 : decode cX8_here 8 = .ok (.invokeinterface 39 1, 5) := by decide +kernel
theorem dX8_here_13 : decode cX8_here 13 = .ok (.if_icmp .ge 19, 3) := dk_162 0 19 (dk_at dksX8_here_0 13 rfl rfl)
theorem dX8_here_16 : decode cX8_here 16 = .ok (.aload_n 0, 1) := dk_42 (dk_at dksX8_here_0 16 rfl rfl)
theorem dX8_here_17 : decode cX8_here 17 = .ok (.getfield 31, 3) := dk_180 0 31 (dk_at dksX8_here_0 17 rfl rfl)
theorem dX8_here_20 : decode cX8_here 20 = .ok (.aload_n 0, 1) := dk_42 (dk_at dksX8_here_0 20 rfl rfl)
theorem dX8_here_21 : decode cX8_here 21 = .ok (.getfield 35, 3) := dk_180 0 35 (dk_at dksX8_here_0 21 rfl rfl)
theorem dX8_here_24 : decode cX8_here 24 = .ok (.invokeinterface 45 2, 5) := by decide +kernel
theorem dX8_here_29 : decode cX8_here 29 = .ok (.goto 5, 3) := dk_167 0 5 (dk_at dksX8_here_1 5 rfl rfl)
theorem dX8_here_32 : decode cX8_here 32 = .ok (.bipush (-11), 2) := dk_16 245 (dk_at dksX8_here_1 8 rfl rfl)
theorem dX8_here_34 : decode cX8_here 34 = .ok (.ireturn, 1) := dk_172 (dk_at dksX8_here_1 10 rfl rfl)
abbrev cX8_takes : ByteArray := prog_6_method_4_code
def yX8_takes : MethodName := ⟨RX8, "takes", "(I)Z"⟩
def dkwX8_takes_1 : List UInt8 := [167, 0, 4, 3, 96, 181, 0, 35, 28, 172]
abbrev dktX8_takes_1 : List UInt8 := dkwX8_takes_1 ++ []
def dkwX8_takes_0 : List UInt8 := [42, 182, 0, 54, 27, 160, 0, 7, 4, 167, 0, 4, 3, 61, 42, 89, 180, 0, 35, 28, 153, 0, 7, 4]
abbrev dktX8_takes_0 : List UInt8 := dkwX8_takes_0 ++ dktX8_takes_1
theorem dksX8_takes_0 : cX8_takes.data.toList.drop 0 = dktX8_takes_0 := by decide +kernel
theorem dksX8_takes_1 : cX8_takes.data.toList.drop 24 = dktX8_takes_1 := dk_seg dksX8_takes_0 24 rfl rfl
theorem dX8_takes_0 : decode cX8_takes 0 = .ok (.aload_n 0, 1) := dk_42 (dk_at dksX8_takes_0 0 rfl rfl)
theorem dX8_takes_1 : decode cX8_takes 1 = .ok (.invokevirtual 54, 3) := dk_182 0 54 (dk_at dksX8_takes_0 1 rfl rfl)
theorem dX8_takes_4 : decode cX8_takes 4 = .ok (.iload_n 1, 1) := dk_27 (dk_at dksX8_takes_0 4 rfl rfl)
theorem dX8_takes_5 : decode cX8_takes 5 = .ok (.if_icmp .ne 7, 3) := dk_160 0 7 (dk_at dksX8_takes_0 5 rfl rfl)
theorem dX8_takes_8 : decode cX8_takes 8 = .ok (.iconst 1, 1) := dk_4 (dk_at dksX8_takes_0 8 rfl rfl)
theorem dX8_takes_9 : decode cX8_takes 9 = .ok (.goto 4, 3) := dk_167 0 4 (dk_at dksX8_takes_0 9 rfl rfl)
theorem dX8_takes_12 : decode cX8_takes 12 = .ok (.iconst 0, 1) := dk_3 (dk_at dksX8_takes_0 12 rfl rfl)
theorem dX8_takes_13 : decode cX8_takes 13 = .ok (.istore_n 2, 1) := dk_61 (dk_at dksX8_takes_0 13 rfl rfl)
theorem dX8_takes_14 : decode cX8_takes 14 = .ok (.aload_n 0, 1) := dk_42 (dk_at dksX8_takes_0 14 rfl rfl)
theorem dX8_takes_15 : decode cX8_takes 15 = .ok (.dup, 1) := dk_89 (dk_at dksX8_takes_0 15 rfl rfl)
theorem dX8_takes_16 : decode cX8_takes 16 = .ok (.getfield 35, 3) := dk_180 0 35 (dk_at dksX8_takes_0 16 rfl rfl)
theorem dX8_takes_19 : decode cX8_takes 19 = .ok (.iload_n 2, 1) := dk_28 (dk_at dksX8_takes_0 19 rfl rfl)
theorem dX8_takes_20 : decode cX8_takes 20 = .ok (.ifCond .eq 7, 3) := dk_153 0 7 (dk_at dksX8_takes_0 20 rfl rfl)
theorem dX8_takes_23 : decode cX8_takes 23 = .ok (.iconst 1, 1) := dk_4 (dk_at dksX8_takes_0 23 rfl rfl)
theorem dX8_takes_24 : decode cX8_takes 24 = .ok (.goto 4, 3) := dk_167 0 4 (dk_at dksX8_takes_1 0 rfl rfl)
theorem dX8_takes_27 : decode cX8_takes 27 = .ok (.iconst 0, 1) := dk_3 (dk_at dksX8_takes_1 3 rfl rfl)
theorem dX8_takes_28 : decode cX8_takes 28 = .ok (.iadd, 1) := dk_96 (dk_at dksX8_takes_1 4 rfl rfl)
theorem dX8_takes_29 : decode cX8_takes 29 = .ok (.putfield 35, 3) := dk_181 0 35 (dk_at dksX8_takes_1 5 rfl rfl)
theorem dX8_takes_32 : decode cX8_takes 32 = .ok (.iload_n 2, 1) := dk_28 (dk_at dksX8_takes_1 8 rfl rfl)
theorem dX8_takes_33 : decode cX8_takes 33 = .ok (.ireturn, 1) := dk_172 (dk_at dksX8_takes_1 9 rfl rfl)
abbrev cX8_needs : ByteArray := prog_6_method_3_code
def yX8_needs : MethodName := ⟨RX8, "needs", "(Z)V"⟩
def dkwX8_needs_0 : List UInt8 := [27, 154, 0, 15, 187, 0, 49, 89, 42, 180, 0, 35, 183, 0, 51, 191, 177]
abbrev dktX8_needs_0 : List UInt8 := dkwX8_needs_0 ++ []
theorem dksX8_needs_0 : cX8_needs.data.toList.drop 0 = dktX8_needs_0 := by decide +kernel
theorem dX8_needs_0 : decode cX8_needs 0 = .ok (.iload_n 1, 1) := dk_27 (dk_at dksX8_needs_0 0 rfl rfl)
theorem dX8_needs_1 : decode cX8_needs 1 = .ok (.ifCond .ne 15, 3) := dk_154 0 15 (dk_at dksX8_needs_0 1 rfl rfl)
theorem dX8_needs_4 : decode cX8_needs 4 = .ok (.new 49, 3) := dk_187 0 49 (dk_at dksX8_needs_0 4 rfl rfl)
theorem dX8_needs_7 : decode cX8_needs 7 = .ok (.dup, 1) := dk_89 (dk_at dksX8_needs_0 7 rfl rfl)
theorem dX8_needs_8 : decode cX8_needs 8 = .ok (.aload_n 0, 1) := dk_42 (dk_at dksX8_needs_0 8 rfl rfl)
theorem dX8_needs_9 : decode cX8_needs 9 = .ok (.getfield 35, 3) := dk_180 0 35 (dk_at dksX8_needs_0 9 rfl rfl)
theorem dX8_needs_12 : decode cX8_needs 12 = .ok (.invokespecial 51, 3) := dk_183 0 51 (dk_at dksX8_needs_0 12 rfl rfl)
theorem dX8_needs_15 : decode cX8_needs 15 = .ok (.athrow, 1) := dk_191 (dk_at dksX8_needs_0 15 rfl rfl)
theorem dX8_needs_16 : decode cX8_needs 16 = .ok (.return_, 1) := dk_177 (dk_at dksX8_needs_0 16 rfl rfl)
abbrev cX8_number : ByteArray := prog_6_method_6_code
def yX8_number : MethodName := ⟨RX8, "number", "(I)I"⟩
def dkwX8_number_2 : List UInt8 := [16, 48, 100, 61, 42, 89, 180, 0, 35, 4, 96, 181, 0, 35, 132, 3, 1, 167, 255, 211, 28, 172]
abbrev dktX8_number_2 : List UInt8 := dkwX8_number_2 ++ []
def dkwX8_number_1 : List UInt8 := [42, 182, 0, 54, 16, 48, 16, 57, 184, 0, 67, 153, 0, 32, 16, 10, 28, 104, 42, 182, 0, 54, 96]
abbrev dktX8_number_1 : List UInt8 := dkwX8_number_1 ++ dktX8_number_2
def dkwX8_number_0 : List UInt8 := [42, 42, 182, 0, 54, 16, 48, 16, 57, 184, 0, 67, 182, 0, 63, 3, 61, 3, 62, 29, 27, 162, 0, 46]
abbrev dktX8_number_0 : List UInt8 := dkwX8_number_0 ++ dktX8_number_1
theorem dksX8_number_0 : cX8_number.data.toList.drop 0 = dktX8_number_0 := by decide +kernel
theorem dksX8_number_1 : cX8_number.data.toList.drop 24 = dktX8_number_1 := dk_seg dksX8_number_0 24 rfl rfl
theorem dksX8_number_2 : cX8_number.data.toList.drop 47 = dktX8_number_2 := dk_seg dksX8_number_1 23 rfl rfl
theorem dX8_number_0 : decode cX8_number 0 = .ok (.aload_n 0, 1) := dk_42 (dk_at dksX8_number_0 0 rfl rfl)
theorem dX8_number_1 : decode cX8_number 1 = .ok (.aload_n 0, 1) := dk_42 (dk_at dksX8_number_0 1 rfl rfl)
theorem dX8_number_2 : decode cX8_number 2 = .ok (.invokevirtual 54, 3) := dk_182 0 54 (dk_at dksX8_number_0 2 rfl rfl)
theorem dX8_number_5 : decode cX8_number 5 = .ok (.bipush 48, 2) := dk_16 48 (dk_at dksX8_number_0 5 rfl rfl)
theorem dX8_number_7 : decode cX8_number 7 = .ok (.bipush 57, 2) := dk_16 57 (dk_at dksX8_number_0 7 rfl rfl)
theorem dX8_number_9 : decode cX8_number 9 = .ok (.invokestatic 67, 3) := dk_184 0 67 (dk_at dksX8_number_0 9 rfl rfl)
theorem dX8_number_12 : decode cX8_number 12 = .ok (.invokevirtual 63, 3) := dk_182 0 63 (dk_at dksX8_number_0 12 rfl rfl)
theorem dX8_number_15 : decode cX8_number 15 = .ok (.iconst 0, 1) := dk_3 (dk_at dksX8_number_0 15 rfl rfl)
theorem dX8_number_16 : decode cX8_number 16 = .ok (.istore_n 2, 1) := dk_61 (dk_at dksX8_number_0 16 rfl rfl)
theorem dX8_number_17 : decode cX8_number 17 = .ok (.iconst 0, 1) := dk_3 (dk_at dksX8_number_0 17 rfl rfl)
theorem dX8_number_18 : decode cX8_number 18 = .ok (.istore_n 3, 1) := dk_62 (dk_at dksX8_number_0 18 rfl rfl)
theorem dX8_number_19 : decode cX8_number 19 = .ok (.iload_n 3, 1) := dk_29 (dk_at dksX8_number_0 19 rfl rfl)
theorem dX8_number_20 : decode cX8_number 20 = .ok (.iload_n 1, 1) := dk_27 (dk_at dksX8_number_0 20 rfl rfl)
theorem dX8_number_21 : decode cX8_number 21 = .ok (.if_icmp .ge 46, 3) := dk_162 0 46 (dk_at dksX8_number_0 21 rfl rfl)
theorem dX8_number_24 : decode cX8_number 24 = .ok (.aload_n 0, 1) := dk_42 (dk_at dksX8_number_1 0 rfl rfl)
theorem dX8_number_25 : decode cX8_number 25 = .ok (.invokevirtual 54, 3) := dk_182 0 54 (dk_at dksX8_number_1 1 rfl rfl)
theorem dX8_number_28 : decode cX8_number 28 = .ok (.bipush 48, 2) := dk_16 48 (dk_at dksX8_number_1 4 rfl rfl)
theorem dX8_number_30 : decode cX8_number 30 = .ok (.bipush 57, 2) := dk_16 57 (dk_at dksX8_number_1 6 rfl rfl)
theorem dX8_number_32 : decode cX8_number 32 = .ok (.invokestatic 67, 3) := dk_184 0 67 (dk_at dksX8_number_1 8 rfl rfl)
theorem dX8_number_35 : decode cX8_number 35 = .ok (.ifCond .eq 32, 3) := dk_153 0 32 (dk_at dksX8_number_1 11 rfl rfl)
theorem dX8_number_38 : decode cX8_number 38 = .ok (.bipush 10, 2) := dk_16 10 (dk_at dksX8_number_1 14 rfl rfl)
theorem dX8_number_40 : decode cX8_number 40 = .ok (.iload_n 2, 1) := dk_28 (dk_at dksX8_number_1 16 rfl rfl)
theorem dX8_number_41 : decode cX8_number 41 = .ok (.imul, 1) := dk_104 (dk_at dksX8_number_1 17 rfl rfl)
theorem dX8_number_42 : decode cX8_number 42 = .ok (.aload_n 0, 1) := dk_42 (dk_at dksX8_number_1 18 rfl rfl)
theorem dX8_number_43 : decode cX8_number 43 = .ok (.invokevirtual 54, 3) := dk_182 0 54 (dk_at dksX8_number_1 19 rfl rfl)
theorem dX8_number_46 : decode cX8_number 46 = .ok (.iadd, 1) := dk_96 (dk_at dksX8_number_1 22 rfl rfl)
theorem dX8_number_47 : decode cX8_number 47 = .ok (.bipush 48, 2) := dk_16 48 (dk_at dksX8_number_2 0 rfl rfl)
theorem dX8_number_49 : decode cX8_number 49 = .ok (.isub, 1) := dk_100 (dk_at dksX8_number_2 2 rfl rfl)
theorem dX8_number_50 : decode cX8_number 50 = .ok (.istore_n 2, 1) := dk_61 (dk_at dksX8_number_2 3 rfl rfl)
theorem dX8_number_51 : decode cX8_number 51 = .ok (.aload_n 0, 1) := dk_42 (dk_at dksX8_number_2 4 rfl rfl)
theorem dX8_number_52 : decode cX8_number 52 = .ok (.dup, 1) := dk_89 (dk_at dksX8_number_2 5 rfl rfl)
theorem dX8_number_53 : decode cX8_number 53 = .ok (.getfield 35, 3) := dk_180 0 35 (dk_at dksX8_number_2 6 rfl rfl)
theorem dX8_number_56 : decode cX8_number 56 = .ok (.iconst 1, 1) := dk_4 (dk_at dksX8_number_2 9 rfl rfl)
theorem dX8_number_57 : decode cX8_number 57 = .ok (.iadd, 1) := dk_96 (dk_at dksX8_number_2 10 rfl rfl)
theorem dX8_number_58 : decode cX8_number 58 = .ok (.putfield 35, 3) := dk_181 0 35 (dk_at dksX8_number_2 11 rfl rfl)
theorem dX8_number_61 : decode cX8_number 61 = .ok (.iinc 3 1, 3) := dk_132 3 1 (dk_at dksX8_number_2 14 rfl rfl)
theorem dX8_number_64 : decode cX8_number 64 = .ok (.goto (-45), 3) := dk_167 255 211 (dk_at dksX8_number_2 17 rfl rfl)
theorem dX8_number_67 : decode cX8_number 67 = .ok (.iload_n 2, 1) := dk_28 (dk_at dksX8_number_2 20 rfl rfl)
theorem dX8_number_68 : decode cX8_number 68 = .ok (.ireturn, 1) := dk_172 (dk_at dksX8_number_2 21 rfl rfl)
abbrev cX8_behind : ByteArray := prog_6_method_7_code
def yX8_behind : MethodName := ⟨RX8, "behind", "(CI)I"⟩
def dkwX8_behind_0 : List UInt8 := [42, 42, 27, 182, 0, 59, 182, 0, 63, 42, 28, 182, 0, 71, 172]
abbrev dktX8_behind_0 : List UInt8 := dkwX8_behind_0 ++ []
theorem dksX8_behind_0 : cX8_behind.data.toList.drop 0 = dktX8_behind_0 := by decide +kernel
theorem dX8_behind_0 : decode cX8_behind 0 = .ok (.aload_n 0, 1) := dk_42 (dk_at dksX8_behind_0 0 rfl rfl)
theorem dX8_behind_1 : decode cX8_behind 1 = .ok (.aload_n 0, 1) := dk_42 (dk_at dksX8_behind_0 1 rfl rfl)
theorem dX8_behind_2 : decode cX8_behind 2 = .ok (.iload_n 1, 1) := dk_27 (dk_at dksX8_behind_0 2 rfl rfl)
theorem dX8_behind_3 : decode cX8_behind 3 = .ok (.invokevirtual 59, 3) := dk_182 0 59 (dk_at dksX8_behind_0 3 rfl rfl)
theorem dX8_behind_6 : decode cX8_behind 6 = .ok (.invokevirtual 63, 3) := dk_182 0 63 (dk_at dksX8_behind_0 6 rfl rfl)
theorem dX8_behind_9 : decode cX8_behind 9 = .ok (.aload_n 0, 1) := dk_42 (dk_at dksX8_behind_0 9 rfl rfl)
theorem dX8_behind_10 : decode cX8_behind 10 = .ok (.iload_n 2, 1) := dk_28 (dk_at dksX8_behind_0 10 rfl rfl)
theorem dX8_behind_11 : decode cX8_behind 11 = .ok (.invokevirtual 71, 3) := dk_182 0 71 (dk_at dksX8_behind_0 11 rfl rfl)
theorem dX8_behind_14 : decode cX8_behind 14 = .ok (.ireturn, 1) := dk_172 (dk_at dksX8_behind_0 14 rfl rfl)
abbrev cX8_brushes : ByteArray := prog_6_method_8_code
def yX8_brushes : MethodName := ⟨RX8, "brushes", "()I"⟩
def dkwX8_brushes_2 : List UInt8 := [153, 0, 12, 42, 5, 182, 0, 71, 116, 167, 0, 8, 42, 5, 182, 0, 71, 172]
abbrev dktX8_brushes_2 : List UInt8 := dkwX8_brushes_2 ++ []
def dkwX8_brushes_1 : List UInt8 := [16, 43, 160, 0, 7, 4, 167, 0, 4, 3, 182, 0, 63, 42, 89, 180, 0, 35, 4, 96, 181, 0, 35, 27]
abbrev dktX8_brushes_1 : List UInt8 := dkwX8_brushes_1 ++ dktX8_brushes_2
def dkwX8_brushes_0 : List UInt8 := [42, 182, 0, 54, 16, 45, 160, 0, 7, 4, 167, 0, 4, 3, 60, 42, 27, 154, 0, 12, 42, 182, 0, 54]
abbrev dktX8_brushes_0 : List UInt8 := dkwX8_brushes_0 ++ dktX8_brushes_1
theorem dksX8_brushes_0 : cX8_brushes.data.toList.drop 0 = dktX8_brushes_0 := by decide +kernel
theorem dksX8_brushes_1 : cX8_brushes.data.toList.drop 24 = dktX8_brushes_1 := dk_seg dksX8_brushes_0 24 rfl rfl
theorem dksX8_brushes_2 : cX8_brushes.data.toList.drop 48 = dktX8_brushes_2 := dk_seg dksX8_brushes_1 24 rfl rfl
theorem dX8_brushes_0 : decode cX8_brushes 0 = .ok (.aload_n 0, 1) := dk_42 (dk_at dksX8_brushes_0 0 rfl rfl)
theorem dX8_brushes_1 : decode cX8_brushes 1 = .ok (.invokevirtual 54, 3) := dk_182 0 54 (dk_at dksX8_brushes_0 1 rfl rfl)
theorem dX8_brushes_4 : decode cX8_brushes 4 = .ok (.bipush 45, 2) := dk_16 45 (dk_at dksX8_brushes_0 4 rfl rfl)
theorem dX8_brushes_6 : decode cX8_brushes 6 = .ok (.if_icmp .ne 7, 3) := dk_160 0 7 (dk_at dksX8_brushes_0 6 rfl rfl)
theorem dX8_brushes_9 : decode cX8_brushes 9 = .ok (.iconst 1, 1) := dk_4 (dk_at dksX8_brushes_0 9 rfl rfl)
theorem dX8_brushes_10 : decode cX8_brushes 10 = .ok (.goto 4, 3) := dk_167 0 4 (dk_at dksX8_brushes_0 10 rfl rfl)
theorem dX8_brushes_13 : decode cX8_brushes 13 = .ok (.iconst 0, 1) := dk_3 (dk_at dksX8_brushes_0 13 rfl rfl)
theorem dX8_brushes_14 : decode cX8_brushes 14 = .ok (.istore_n 1, 1) := dk_60 (dk_at dksX8_brushes_0 14 rfl rfl)
theorem dX8_brushes_15 : decode cX8_brushes 15 = .ok (.aload_n 0, 1) := dk_42 (dk_at dksX8_brushes_0 15 rfl rfl)
theorem dX8_brushes_16 : decode cX8_brushes 16 = .ok (.iload_n 1, 1) := dk_27 (dk_at dksX8_brushes_0 16 rfl rfl)
theorem dX8_brushes_17 : decode cX8_brushes 17 = .ok (.ifCond .ne 12, 3) := dk_154 0 12 (dk_at dksX8_brushes_0 17 rfl rfl)
theorem dX8_brushes_20 : decode cX8_brushes 20 = .ok (.aload_n 0, 1) := dk_42 (dk_at dksX8_brushes_0 20 rfl rfl)
theorem dX8_brushes_21 : decode cX8_brushes 21 = .ok (.invokevirtual 54, 3) := dk_182 0 54 (dk_at dksX8_brushes_0 21 rfl rfl)
theorem dX8_brushes_24 : decode cX8_brushes 24 = .ok (.bipush 43, 2) := dk_16 43 (dk_at dksX8_brushes_1 0 rfl rfl)
theorem dX8_brushes_26 : decode cX8_brushes 26 = .ok (.if_icmp .ne 7, 3) := dk_160 0 7 (dk_at dksX8_brushes_1 2 rfl rfl)
theorem dX8_brushes_29 : decode cX8_brushes 29 = .ok (.iconst 1, 1) := dk_4 (dk_at dksX8_brushes_1 5 rfl rfl)
theorem dX8_brushes_30 : decode cX8_brushes 30 = .ok (.goto 4, 3) := dk_167 0 4 (dk_at dksX8_brushes_1 6 rfl rfl)
theorem dX8_brushes_33 : decode cX8_brushes 33 = .ok (.iconst 0, 1) := dk_3 (dk_at dksX8_brushes_1 9 rfl rfl)
theorem dX8_brushes_34 : decode cX8_brushes 34 = .ok (.invokevirtual 63, 3) := dk_182 0 63 (dk_at dksX8_brushes_1 10 rfl rfl)
theorem dX8_brushes_37 : decode cX8_brushes 37 = .ok (.aload_n 0, 1) := dk_42 (dk_at dksX8_brushes_1 13 rfl rfl)
theorem dX8_brushes_38 : decode cX8_brushes 38 = .ok (.dup, 1) := dk_89 (dk_at dksX8_brushes_1 14 rfl rfl)
theorem dX8_brushes_39 : decode cX8_brushes 39 = .ok (.getfield 35, 3) := dk_180 0 35 (dk_at dksX8_brushes_1 15 rfl rfl)
theorem dX8_brushes_42 : decode cX8_brushes 42 = .ok (.iconst 1, 1) := dk_4 (dk_at dksX8_brushes_1 18 rfl rfl)
theorem dX8_brushes_43 : decode cX8_brushes 43 = .ok (.iadd, 1) := dk_96 (dk_at dksX8_brushes_1 19 rfl rfl)
theorem dX8_brushes_44 : decode cX8_brushes 44 = .ok (.putfield 35, 3) := dk_181 0 35 (dk_at dksX8_brushes_1 20 rfl rfl)
theorem dX8_brushes_47 : decode cX8_brushes 47 = .ok (.iload_n 1, 1) := dk_27 (dk_at dksX8_brushes_1 23 rfl rfl)
theorem dX8_brushes_48 : decode cX8_brushes 48 = .ok (.ifCond .eq 12, 3) := dk_153 0 12 (dk_at dksX8_brushes_2 0 rfl rfl)
theorem dX8_brushes_51 : decode cX8_brushes 51 = .ok (.aload_n 0, 1) := dk_42 (dk_at dksX8_brushes_2 3 rfl rfl)
theorem dX8_brushes_52 : decode cX8_brushes 52 = .ok (.iconst 2, 1) := dk_5 (dk_at dksX8_brushes_2 4 rfl rfl)
theorem dX8_brushes_53 : decode cX8_brushes 53 = .ok (.invokevirtual 71, 3) := dk_182 0 71 (dk_at dksX8_brushes_2 5 rfl rfl)
theorem dX8_brushes_56 : decode cX8_brushes 56 = .ok (.ineg, 1) := dk_116 (dk_at dksX8_brushes_2 8 rfl rfl)
theorem dX8_brushes_57 : decode cX8_brushes 57 = .ok (.goto 8, 3) := dk_167 0 8 (dk_at dksX8_brushes_2 9 rfl rfl)
theorem dX8_brushes_60 : decode cX8_brushes 60 = .ok (.aload_n 0, 1) := dk_42 (dk_at dksX8_brushes_2 12 rfl rfl)
theorem dX8_brushes_61 : decode cX8_brushes 61 = .ok (.iconst 2, 1) := dk_5 (dk_at dksX8_brushes_2 13 rfl rfl)
theorem dX8_brushes_62 : decode cX8_brushes 62 = .ok (.invokevirtual 71, 3) := dk_182 0 71 (dk_at dksX8_brushes_2 14 rfl rfl)
theorem dX8_brushes_65 : decode cX8_brushes 65 = .ok (.ireturn, 1) := dk_172 (dk_at dksX8_brushes_2 17 rfl rfl)
theorem q103 : (Jvm.Cond.initialized "BrushSellers$Reader") ∈ lw_all := lw_g (lw_at lw_m1 40 rfl) rfl
theorem q264 : (Jvm.Cond.selects "BrushSellers$Reader" ({ cls := "java/lang/Object", name := "getClass", desc := "()Ljava/lang/Class;" } : Jvm.MethodName) ({ cls := "java/lang/Object", name := "getClass", desc := "()Ljava/lang/Class;" } : Jvm.MethodName)) ∈ lw_all := lw_g (lw_at lw_m1 201 rfl) rfl
theorem q1456 : (Jvm.Cond.instantiable "BrushSellers$Reader" (3 : Nat)) ∈ lw_all := lw_g (lw_at lw_m6 193 rfl) rfl
theorem q1458 : (Jvm.Cond.instanceMethod ({ cls := "BrushSellers$Reader", name := "<init>", desc := "(Ljava/lang/CharSequence;)V" } : Jvm.MethodName)) ∈ lw_all := lw_g (lw_at lw_m6 195 rfl) rfl
theorem q1459 : (Jvm.Cond.code ({ cls := "BrushSellers$Reader", name := "<init>", desc := "(Ljava/lang/CharSequence;)V" } : Jvm.MethodName) prog_6_method_1_code (2 : Nat) (Option.none : Option Jvm.ClassFile.FieldType)) ∈ lw_all := lw_g (lw_at lw_m6 196 rfl) rfl
theorem q1460 : (Jvm.Cond.methodLink "BrushSellers$Reader" (3 : Nat) ({ cls := "java/lang/Object", name := "<init>", desc := "()V" } : Jvm.MethodName)) ∈ lw_all := lw_g (lw_at lw_m6 197 rfl) rfl
theorem q1461 : (Jvm.Cond.classLink "BrushSellers$Reader" (9 : Nat) "java/lang/String") ∈ lw_all := lw_g (lw_at lw_m6 198 rfl) rfl
theorem q1463 : (Jvm.Cond.stringRef "BrushSellers$Reader" (11 : Nat) "go ") ∈ lw_tbl := lw_at lw_m6 200 rfl
theorem q1464 : (Jvm.Cond.stringRef "BrushSellers$Reader" (13 : Nat) "ring ") ∈ lw_tbl := lw_at lw_m6 201 rfl
theorem q1465 : (Jvm.Cond.stringRef "BrushSellers$Reader" (15 : Nat) "pet ") ∈ lw_tbl := lw_at lw_m6 202 rfl
theorem q1466 : (Jvm.Cond.stringRef "BrushSellers$Reader" (17 : Nat) "take ") ∈ lw_tbl := lw_at lw_m6 203 rfl
theorem q1467 : (Jvm.Cond.stringRef "BrushSellers$Reader" (19 : Nat) "back ") ∈ lw_tbl := lw_at lw_m6 204 rfl
theorem q1468 : (Jvm.Cond.stringRef "BrushSellers$Reader" (21 : Nat) "soles ") ∈ lw_tbl := lw_at lw_m6 205 rfl
theorem q1469 : (Jvm.Cond.stringRef "BrushSellers$Reader" (23 : Nat) "day") ∈ lw_tbl := lw_at lw_m6 206 rfl
theorem q1470 : (Jvm.Cond.fieldLink "BrushSellers$Reader" (25 : Nat) "BrushSellers$Reader" "words" "[Ljava/lang/String;") ∈ lw_all := lw_g (lw_at lw_m6 207 rfl) rfl
theorem q1471 : (Jvm.Cond.fieldLink "BrushSellers$Reader" (31 : Nat) "BrushSellers$Reader" "text" "Ljava/lang/CharSequence;") ∈ lw_all := lw_g (lw_at lw_m6 208 rfl) rfl
theorem q1472 : (Jvm.Cond.fieldLink "BrushSellers$Reader" (35 : Nat) "BrushSellers$Reader" "at" "I") ∈ lw_all := lw_g (lw_at lw_m6 209 rfl) rfl
theorem q1473 : (Jvm.Cond.laysFinal "BrushSellers$Reader" "BrushSellers$Reader" "words" "[Ljava/lang/String;") ∈ lw_all := lw_g (lw_at lw_m6 210 rfl) rfl
theorem q1474 : (Jvm.Cond.soleField "BrushSellers$Reader" "words") ∈ lw_all := lw_g (lw_at lw_m6 211 rfl) rfl
theorem q1475 : (Jvm.Cond.laysFinal "BrushSellers$Reader" "BrushSellers$Reader" "text" "Ljava/lang/CharSequence;") ∈ lw_all := lw_g (lw_at lw_m6 212 rfl) rfl
theorem q1476 : (Jvm.Cond.soleField "BrushSellers$Reader" "text") ∈ lw_all := lw_g (lw_at lw_m6 213 rfl) rfl
theorem q1477 : (Jvm.Cond.lays "BrushSellers$Reader" "BrushSellers$Reader" "at" "I") ∈ lw_all := lw_g (lw_at lw_m6 214 rfl) rfl
theorem q1478 : (Jvm.Cond.soleField "BrushSellers$Reader" "at") ∈ lw_all := lw_g (lw_at lw_m6 215 rfl) rfl
theorem q1479 : (Jvm.Cond.superclass "BrushSellers$Reader" "java/lang/Object") ∈ lw_all := lw_g (lw_at lw_m6 216 rfl) rfl
theorem q1481 : (Jvm.Cond.instanceMethod ({ cls := "BrushSellers$Reader", name := "orders", desc := "()Ljava/util/LinkedList;" } : Jvm.MethodName)) ∈ lw_all := lw_g (lw_at lw_m6 218 rfl) rfl
theorem q1482 : (Jvm.Cond.selects "BrushSellers$Reader" ({ cls := "BrushSellers$Reader", name := "orders", desc := "()Ljava/util/LinkedList;" } : Jvm.MethodName) ({ cls := "BrushSellers$Reader", name := "orders", desc := "()Ljava/util/LinkedList;" } : Jvm.MethodName)) ∈ lw_all := lw_g (lw_at lw_m6 219 rfl) rfl
theorem q1483 : (Jvm.Cond.code ({ cls := "BrushSellers$Reader", name := "orders", desc := "()Ljava/util/LinkedList;" } : Jvm.MethodName) prog_6_method_10_code (2 : Nat) (Option.some (Jvm.ClassFile.FieldType.object "java/util/LinkedList"))) ∈ lw_all := lw_g (lw_at lw_m6 220 rfl) rfl
theorem q1484 : (Jvm.Cond.classLink "BrushSellers$Reader" (110 : Nat) "java/util/LinkedList") ∈ lw_all := lw_g (lw_at lw_m6 221 rfl) rfl
theorem q1485 : (Jvm.Cond.methodLink "BrushSellers$Reader" (112 : Nat) ({ cls := "java/util/LinkedList", name := "<init>", desc := "()V" } : Jvm.MethodName)) ∈ lw_all := lw_g (lw_at lw_m6 222 rfl) rfl
theorem q1486 : (Jvm.Cond.methodLink "BrushSellers$Reader" (113 : Nat) ({ cls := "BrushSellers$Reader", name := "order", desc := "()LBrushSellers$Order;" } : Jvm.MethodName)) ∈ lw_all := lw_g (lw_at lw_m6 223 rfl) rfl
theorem q1487 : (Jvm.Cond.privateMethod ({ cls := "BrushSellers$Reader", name := "order", desc := "()LBrushSellers$Order;" } : Jvm.MethodName)) ∈ lw_tbl := lw_at lw_m6 224 rfl
theorem q1488 : (Jvm.Cond.instanceMethod ({ cls := "BrushSellers$Reader", name := "order", desc := "()LBrushSellers$Order;" } : Jvm.MethodName)) ∈ lw_all := lw_g (lw_at lw_m6 225 rfl) rfl
theorem q1489 : (Jvm.Cond.code ({ cls := "BrushSellers$Reader", name := "order", desc := "()LBrushSellers$Order;" } : Jvm.MethodName) prog_6_method_9_code (4 : Nat) (Option.some (Jvm.ClassFile.FieldType.object "BrushSellers$Order"))) ∈ lw_all := lw_g (lw_at lw_m6 226 rfl) rfl
theorem q1490 : (Jvm.Cond.classLink "BrushSellers$Reader" (75 : Nat) "BrushSellers$Order") ∈ lw_all := lw_g (lw_at lw_m6 227 rfl) rfl
theorem q1492 : (Jvm.Cond.methodLink "BrushSellers$Reader" (77 : Nat) ({ cls := "BrushSellers$Reader", name := "word", desc := "()Ljava/lang/String;" } : Jvm.MethodName)) ∈ lw_all := lw_g (lw_at lw_m6 229 rfl) rfl
theorem q1493 : (Jvm.Cond.privateMethod ({ cls := "BrushSellers$Reader", name := "word", desc := "()Ljava/lang/String;" } : Jvm.MethodName)) ∈ lw_tbl := lw_at lw_m6 230 rfl
theorem q1494 : (Jvm.Cond.instanceMethod ({ cls := "BrushSellers$Reader", name := "word", desc := "()Ljava/lang/String;" } : Jvm.MethodName)) ∈ lw_all := lw_g (lw_at lw_m6 231 rfl) rfl
theorem q1495 : (Jvm.Cond.code ({ cls := "BrushSellers$Reader", name := "word", desc := "()Ljava/lang/String;" } : Jvm.MethodName) prog_6_method_5_code (6 : Nat) (Option.some (Jvm.ClassFile.FieldType.object "java/lang/String"))) ∈ lw_all := lw_g (lw_at lw_m6 232 rfl) rfl
theorem q1496 : (Jvm.Cond.methodLink "BrushSellers$Reader" (54 : Nat) ({ cls := "BrushSellers$Reader", name := "here", desc := "()I" } : Jvm.MethodName)) ∈ lw_all := lw_g (lw_at lw_m6 233 rfl) rfl
theorem q1497 : (Jvm.Cond.privateMethod ({ cls := "BrushSellers$Reader", name := "here", desc := "()I" } : Jvm.MethodName)) ∈ lw_tbl := lw_at lw_m6 234 rfl
theorem q1498 : (Jvm.Cond.instanceMethod ({ cls := "BrushSellers$Reader", name := "here", desc := "()I" } : Jvm.MethodName)) ∈ lw_all := lw_g (lw_at lw_m6 235 rfl) rfl
theorem q1499 : (Jvm.Cond.code ({ cls := "BrushSellers$Reader", name := "here", desc := "()I" } : Jvm.MethodName) prog_6_method_2_code (1 : Nat) (Option.some Jvm.ClassFile.FieldType.int)) ∈ lw_all := lw_g (lw_at lw_m6 236 rfl) rfl
theorem q1500 : (Jvm.Cond.interfaceEntry "BrushSellers$Reader" (39 : Nat)) ∈ lw_tbl := lw_at lw_m6 237 rfl
theorem q1501 : (Jvm.Cond.methodLink "BrushSellers$Reader" (39 : Nat) ({ cls := "java/lang/CharSequence", name := "length", desc := "()I" } : Jvm.MethodName)) ∈ lw_all := lw_g (lw_at lw_m6 238 rfl) rfl
theorem q1512 : (Jvm.Cond.interfaceEntry "BrushSellers$Reader" (45 : Nat)) ∈ lw_tbl := lw_at lw_m7 9 rfl
theorem q1513 : (Jvm.Cond.methodLink "BrushSellers$Reader" (45 : Nat) ({ cls := "java/lang/CharSequence", name := "charAt", desc := "(I)C" } : Jvm.MethodName)) ∈ lw_all := lw_g (lw_at lw_m7 10 rfl) rfl
theorem q1543 : (Jvm.Cond.methodLink "BrushSellers$Reader" (57 : Nat) ({ cls := "java/lang/String", name := "charAt", desc := "(I)C" } : Jvm.MethodName)) ∈ lw_all := lw_g (lw_at lw_m7 40 rfl) rfl
theorem q1544 : (Jvm.Cond.methodLink "BrushSellers$Reader" (58 : Nat) ({ cls := "java/lang/String", name := "length", desc := "()I" } : Jvm.MethodName)) ∈ lw_all := lw_g (lw_at lw_m7 41 rfl) rfl
theorem q1545 : (Jvm.Cond.methodLink "BrushSellers$Reader" (59 : Nat) ({ cls := "BrushSellers$Reader", name := "takes", desc := "(I)Z" } : Jvm.MethodName)) ∈ lw_all := lw_g (lw_at lw_m7 42 rfl) rfl
theorem q1546 : (Jvm.Cond.privateMethod ({ cls := "BrushSellers$Reader", name := "takes", desc := "(I)Z" } : Jvm.MethodName)) ∈ lw_tbl := lw_at lw_m7 43 rfl
theorem q1547 : (Jvm.Cond.instanceMethod ({ cls := "BrushSellers$Reader", name := "takes", desc := "(I)Z" } : Jvm.MethodName)) ∈ lw_all := lw_g (lw_at lw_m7 44 rfl) rfl
theorem q1548 : (Jvm.Cond.code ({ cls := "BrushSellers$Reader", name := "takes", desc := "(I)Z" } : Jvm.MethodName) prog_6_method_4_code (3 : Nat) (Option.some Jvm.ClassFile.FieldType.boolean)) ∈ lw_all := lw_g (lw_at lw_m7 45 rfl) rfl
theorem q1549 : (Jvm.Cond.methodLink "BrushSellers$Reader" (63 : Nat) ({ cls := "BrushSellers$Reader", name := "needs", desc := "(Z)V" } : Jvm.MethodName)) ∈ lw_all := lw_g (lw_at lw_m7 46 rfl) rfl
theorem q1550 : (Jvm.Cond.privateMethod ({ cls := "BrushSellers$Reader", name := "needs", desc := "(Z)V" } : Jvm.MethodName)) ∈ lw_tbl := lw_at lw_m7 47 rfl
theorem q1551 : (Jvm.Cond.instanceMethod ({ cls := "BrushSellers$Reader", name := "needs", desc := "(Z)V" } : Jvm.MethodName)) ∈ lw_all := lw_g (lw_at lw_m7 48 rfl) rfl
theorem q1552 : (Jvm.Cond.code ({ cls := "BrushSellers$Reader", name := "needs", desc := "(Z)V" } : Jvm.MethodName) prog_6_method_3_code (2 : Nat) (Option.none : Option Jvm.ClassFile.FieldType)) ∈ lw_all := lw_g (lw_at lw_m7 49 rfl) rfl
theorem q1553 : (Jvm.Cond.classLink "BrushSellers$Reader" (49 : Nat) "BrushSellers$Wrong") ∈ lw_all := lw_g (lw_at lw_m7 50 rfl) rfl
theorem q1562 : (Jvm.Cond.methodLink "BrushSellers$Reader" (51 : Nat) ({ cls := "BrushSellers$Wrong", name := "<init>", desc := "(I)V" } : Jvm.MethodName)) ∈ lw_all := lw_g (lw_at lw_m7 59 rfl) rfl
theorem q1572 : (Jvm.Cond.methodLink "BrushSellers$Reader" (81 : Nat) ({ cls := "BrushSellers$Order", name := "<init>", desc := "(Ljava/lang/String;)V" } : Jvm.MethodName)) ∈ lw_all := lw_g (lw_at lw_m7 69 rfl) rfl
theorem q1577 : (Jvm.Cond.fieldLinkNest "BrushSellers$Reader" (84 : Nat) "BrushSellers$Order" "word" "Ljava/lang/String;" "BrushSellers") ∈ lw_tbl := lw_at lw_m7 74 rfl
theorem q1579 : (Jvm.Cond.fieldLinkNest "BrushSellers$Reader" (94 : Nat) "BrushSellers$Order" "one" "I" "BrushSellers") ∈ lw_tbl := lw_at lw_m7 76 rfl
theorem q1581 : (Jvm.Cond.fieldLinkNest "BrushSellers$Reader" (101 : Nat) "BrushSellers$Order" "two" "I" "BrushSellers") ∈ lw_tbl := lw_at lw_m7 78 rfl
theorem q1583 : (Jvm.Cond.fieldLinkNest "BrushSellers$Reader" (104 : Nat) "BrushSellers$Order" "three" "I" "BrushSellers") ∈ lw_tbl := lw_at lw_m7 80 rfl
theorem q1593 : (Jvm.Cond.methodLink "BrushSellers$Reader" (87 : Nat) ({ cls := "java/lang/String", name := "hashCode", desc := "()I" } : Jvm.MethodName)) ∈ lw_all := lw_g (lw_at lw_m7 90 rfl) rfl
theorem q1642 : (Jvm.Cond.methodLink "BrushSellers$Reader" (90 : Nat) ({ cls := "java/lang/String", name := "equals", desc := "(Ljava/lang/Object;)Z" } : Jvm.MethodName)) ∈ lw_all := lw_g (lw_at lw_m7 139 rfl) rfl
theorem q1650 : (Jvm.Cond.methodLink "BrushSellers$Reader" (71 : Nat) ({ cls := "BrushSellers$Reader", name := "number", desc := "(I)I" } : Jvm.MethodName)) ∈ lw_all := lw_g (lw_at lw_m7 147 rfl) rfl
theorem q1651 : (Jvm.Cond.privateMethod ({ cls := "BrushSellers$Reader", name := "number", desc := "(I)I" } : Jvm.MethodName)) ∈ lw_tbl := lw_at lw_m7 148 rfl
theorem q1652 : (Jvm.Cond.instanceMethod ({ cls := "BrushSellers$Reader", name := "number", desc := "(I)I" } : Jvm.MethodName)) ∈ lw_all := lw_g (lw_at lw_m7 149 rfl) rfl
theorem q1653 : (Jvm.Cond.code ({ cls := "BrushSellers$Reader", name := "number", desc := "(I)I" } : Jvm.MethodName) prog_6_method_6_code (4 : Nat) (Option.some Jvm.ClassFile.FieldType.int)) ∈ lw_all := lw_g (lw_at lw_m7 150 rfl) rfl
theorem q1654 : (Jvm.Cond.methodLinkNest "BrushSellers$Reader" (67 : Nat) ({ cls := "BrushSellers", name := "isIn", desc := "(III)Z" } : Jvm.MethodName) "BrushSellers") ∈ lw_tbl := lw_at lw_m7 151 rfl
theorem q1655 : (Jvm.Cond.methodLink "BrushSellers$Reader" (97 : Nat) ({ cls := "BrushSellers$Reader", name := "behind", desc := "(CI)I" } : Jvm.MethodName)) ∈ lw_all := lw_g (lw_at lw_m7 152 rfl) rfl
theorem q1656 : (Jvm.Cond.privateMethod ({ cls := "BrushSellers$Reader", name := "behind", desc := "(CI)I" } : Jvm.MethodName)) ∈ lw_tbl := lw_at lw_m7 153 rfl
theorem q1657 : (Jvm.Cond.instanceMethod ({ cls := "BrushSellers$Reader", name := "behind", desc := "(CI)I" } : Jvm.MethodName)) ∈ lw_all := lw_g (lw_at lw_m7 154 rfl) rfl
theorem q1658 : (Jvm.Cond.code ({ cls := "BrushSellers$Reader", name := "behind", desc := "(CI)I" } : Jvm.MethodName) prog_6_method_7_code (3 : Nat) (Option.some Jvm.ClassFile.FieldType.int)) ∈ lw_all := lw_g (lw_at lw_m7 155 rfl) rfl
theorem q1659 : (Jvm.Cond.methodLink "BrushSellers$Reader" (107 : Nat) ({ cls := "BrushSellers$Reader", name := "brushes", desc := "()I" } : Jvm.MethodName)) ∈ lw_all := lw_g (lw_at lw_m7 156 rfl) rfl
theorem q1660 : (Jvm.Cond.privateMethod ({ cls := "BrushSellers$Reader", name := "brushes", desc := "()I" } : Jvm.MethodName)) ∈ lw_tbl := lw_at lw_m7 157 rfl
theorem q1661 : (Jvm.Cond.instanceMethod ({ cls := "BrushSellers$Reader", name := "brushes", desc := "()I" } : Jvm.MethodName)) ∈ lw_all := lw_g (lw_at lw_m7 158 rfl) rfl
theorem q1662 : (Jvm.Cond.code ({ cls := "BrushSellers$Reader", name := "brushes", desc := "()I" } : Jvm.MethodName) prog_6_method_8_code (2 : Nat) (Option.some Jvm.ClassFile.FieldType.int)) ∈ lw_all := lw_g (lw_at lw_m7 159 rfl) rfl
theorem q1663 : (Jvm.Cond.methodLink "BrushSellers$Reader" (117 : Nat) ({ cls := "java/util/LinkedList", name := "addLast", desc := "(Ljava/lang/Object;)V" } : Jvm.MethodName)) ∈ lw_all := lw_g (lw_at lw_m7 160 rfl) rfl
theorem q2271 : (Jvm.Cond.castable "BrushSellers$Reader" "java/lang/Object") ∈ lw_tbl := lw_at lw_m10 48 rfl
theorem in_X8 : ∀ w ∈ wsX80, w ∈ lw_all := lw_in wsX80 [1473, 1475, 1477] (by decide +kernel) (by decide +kernel)

/-! BrushSellers$Order -/
set_option maxRecDepth 100000
def RX9 : String := "BrushSellers$Order"
def TX9 : u_T := fun k => match k with
  | 0 => ("BrushSellers$Order", "word", "Ljava/lang/String;", true)
  | 1 => ("BrushSellers$Order", "one", "I", false)
  | 2 => ("BrushSellers$Order", "two", "I", false)
  | _ => ("BrushSellers$Order", "three", "I", false)
def tyX9 : Nat → FieldType := fun k => match k with
  | 0 => .object "java/lang/String"
  | 1 => .int
  | 2 => .int
  | _ => .int
abbrev wsX90 : List Cond := u_ws RX9 TX9 4
theorem nmX9 : ∀ a, a < 4 → ∀ b, b < 4 → a ≠ b → (TX9 a).2.1 ≠ (TX9 b).2.1 := by decide +kernel
theorem tyX9_ok : ∀ k, k < 4 → parseFieldDescriptor (TX9 k).2.2.1 = some (tyX9 k) := by decide +kernel
abbrev cX9_init : ByteArray := prog_4_method_1_code
def yX9_init : MethodName := ⟨RX9, "<init>", "(Ljava/lang/String;)V"⟩
def dkwX9_init_0 : List UInt8 := [42, 183, 0, 3, 42, 43, 181, 0, 9, 177]
abbrev dktX9_init_0 : List UInt8 := dkwX9_init_0 ++ []
theorem dksX9_init_0 : cX9_init.data.toList.drop 0 = dktX9_init_0 := by decide +kernel
theorem dX9_init_0 : decode cX9_init 0 = .ok (.aload_n 0, 1) := dk_42 (dk_at dksX9_init_0 0 rfl rfl)
theorem dX9_init_1 : decode cX9_init 1 = .ok (.invokespecial 3, 3) := dk_183 0 3 (dk_at dksX9_init_0 1 rfl rfl)
theorem dX9_init_4 : decode cX9_init 4 = .ok (.aload_n 0, 1) := dk_42 (dk_at dksX9_init_0 4 rfl rfl)
theorem dX9_init_5 : decode cX9_init 5 = .ok (.aload_n 1, 1) := dk_43 (dk_at dksX9_init_0 5 rfl rfl)
theorem dX9_init_6 : decode cX9_init 6 = .ok (.putfield 9, 3) := dk_181 0 9 (dk_at dksX9_init_0 6 rfl rfl)
theorem dX9_init_9 : decode cX9_init 9 = .ok (.return_, 1) := dk_177 (dk_at dksX9_init_0 9 rfl rfl)
abbrev cX9_isDone : ByteArray := prog_4_method_3_code
def yX9_isDone : MethodName := ⟨RX9, "isDone", "(LBrushSellers$Company;)Z"⟩
def dkwX9_isDone_0 : List UInt8 := [42, 43, 182, 0, 92, 155, 0, 7, 4, 167, 0, 4, 3, 172, 77, 3, 172]
abbrev dktX9_isDone_0 : List UInt8 := dkwX9_isDone_0 ++ []
theorem dksX9_isDone_0 : cX9_isDone.data.toList.drop 0 = dktX9_isDone_0 := by decide +kernel
theorem dX9_isDone_0 : decode cX9_isDone 0 = .ok (.aload_n 0, 1) := dk_42 (dk_at dksX9_isDone_0 0 rfl rfl)
theorem dX9_isDone_1 : decode cX9_isDone 1 = .ok (.aload_n 1, 1) := dk_43 (dk_at dksX9_isDone_0 1 rfl rfl)
theorem dX9_isDone_2 : decode cX9_isDone 2 = .ok (.invokevirtual 92, 3) := dk_182 0 92 (dk_at dksX9_isDone_0 2 rfl rfl)
theorem dX9_isDone_5 : decode cX9_isDone 5 = .ok (.ifCond .lt 7, 3) := dk_155 0 7 (dk_at dksX9_isDone_0 5 rfl rfl)
theorem dX9_isDone_8 : decode cX9_isDone 8 = .ok (.iconst 1, 1) := dk_4 (dk_at dksX9_isDone_0 8 rfl rfl)
theorem dX9_isDone_9 : decode cX9_isDone 9 = .ok (.goto 4, 3) := dk_167 0 4 (dk_at dksX9_isDone_0 9 rfl rfl)
theorem dX9_isDone_12 : decode cX9_isDone 12 = .ok (.iconst 0, 1) := dk_3 (dk_at dksX9_isDone_0 12 rfl rfl)
theorem dX9_isDone_13 : decode cX9_isDone 13 = .ok (.ireturn, 1) := dk_172 (dk_at dksX9_isDone_0 13 rfl rfl)
theorem dX9_isDone_14 : decode cX9_isDone 14 = .ok (.astore_n 2, 1) := dk_77 (dk_at dksX9_isDone_0 14 rfl rfl)
theorem dX9_isDone_15 : decode cX9_isDone 15 = .ok (.iconst 0, 1) := dk_3 (dk_at dksX9_isDone_0 15 rfl rfl)
theorem dX9_isDone_16 : decode cX9_isDone 16 = .ok (.ireturn, 1) := dk_172 (dk_at dksX9_isDone_0 16 rfl rfl)
abbrev cX9_does : ByteArray := prog_4_method_2_code
def yX9_does : MethodName := ⟨RX9, "does", "(LBrushSellers$Company;)I"⟩
def dkwX9_does_15 : List UInt8 := [182, 0, 89, 172]
abbrev dktX9_does_15 : List UInt8 := dkwX9_does_15 ++ []
def dkwX9_does_14 : List UInt8 := [16, 245, 172, 28, 153, 0, 14, 43, 42, 180, 0, 15, 182, 0, 86, 167, 0, 5, 16, 245, 172, 43]
abbrev dktX9_does_14 : List UInt8 := dkwX9_does_14 ++ dktX9_does_15
def dkwX9_does_13 : List UInt8 := [172, 43, 42, 180, 0, 15, 182, 0, 80, 153, 0, 14, 43, 42, 180, 0, 15, 182, 0, 83, 167, 0, 5]
abbrev dktX9_does_13 : List UInt8 := dkwX9_does_13 ++ dktX9_does_14
def dkwX9_does_12 : List UInt8 := [153, 0, 22, 43, 42, 180, 0, 15, 42, 180, 0, 47, 42, 180, 0, 60, 182, 0, 77, 167, 0, 5, 16, 245]
abbrev dktX9_does_12 : List UInt8 := dkwX9_does_12 ++ dktX9_does_13
def dkwX9_does_11 : List UInt8 := [16, 245, 172, 28, 153, 0, 42, 42, 180, 0, 47, 184, 0, 57, 153, 0, 32, 42, 180, 0, 60, 184, 0, 74]
abbrev dktX9_does_11 : List UInt8 := dkwX9_does_11 ++ dktX9_does_12
def dkwX9_does_10 : List UInt8 := [182, 0, 66, 167, 0, 5, 16, 245, 172, 28, 153, 0, 14, 43, 42, 180, 0, 15, 182, 0, 70, 167, 0, 5]
abbrev dktX9_does_10 : List UInt8 := dkwX9_does_10 ++ dktX9_does_11
def dkwX9_does_9 : List UInt8 := [180, 0, 60, 184, 0, 63, 153, 0, 22, 43, 42, 180, 0, 15, 42, 180, 0, 47, 42, 180, 0, 60]
abbrev dktX9_does_9 : List UInt8 := dkwX9_does_9 ++ dktX9_does_10
def dkwX9_does_8 : List UInt8 := [182, 0, 53, 167, 0, 5, 16, 245, 172, 28, 153, 0, 42, 42, 180, 0, 47, 184, 0, 57, 153, 0, 32, 42]
abbrev dktX9_does_8 : List UInt8 := dkwX9_does_8 ++ dktX9_does_9
def dkwX9_does_7 : List UInt8 := [28, 153, 0, 28, 42, 180, 0, 47, 184, 0, 50, 153, 0, 18, 43, 42, 180, 0, 15, 42, 180, 0, 47]
abbrev dktX9_does_7 : List UInt8 := dkwX9_does_7 ++ dktX9_does_8
def dkwX9_does_6 : List UInt8 := [170, 0, 0, 0, 0, 0, 224, 0, 0, 0, 0, 0, 0, 0, 5, 0, 0, 0, 39, 0, 0, 0, 71, 0, 0, 0, 117, 0, 0, 0, 135, 0, 0, 0, 181, 0, 0, 0, 206]
abbrev dktX9_does_6 : List UInt8 := dkwX9_does_6 ++ dktX9_does_7
def dkwX9_does_5 : List UInt8 := [167, 0, 15, 45, 18, 45, 182, 0, 33, 153, 0, 6, 8, 54, 4, 21, 4]
abbrev dktX9_does_5 : List UInt8 := dkwX9_does_5 ++ dktX9_does_6
def dkwX9_does_4 : List UInt8 := [182, 0, 33, 153, 0, 36, 6, 54, 4, 167, 0, 30, 45, 18, 43, 182, 0, 33, 153, 0, 21, 7, 54, 4]
abbrev dktX9_does_4 : List UInt8 := dkwX9_does_4 ++ dktX9_does_5
def dkwX9_does_3 : List UInt8 := [4, 54, 4, 167, 0, 60, 45, 18, 39, 182, 0, 33, 153, 0, 51, 5, 54, 4, 167, 0, 45, 45, 18, 41]
abbrev dktX9_does_3 : List UInt8 := dkwX9_does_3 ++ dktX9_does_4
def dkwX9_does_2 : List UInt8 := [45, 18, 31, 182, 0, 33, 153, 0, 81, 3, 54, 4, 167, 0, 75, 45, 18, 37, 182, 0, 33, 153, 0, 66]
abbrev dktX9_does_2 : List UInt8 := dkwX9_does_2 ++ dktX9_does_3
def dkwX9_does_1 : List UInt8 := [171, 0, 0, 0, 0, 0, 146, 0, 0, 0, 6, 202, 140, 33, 162, 0, 0, 0, 134, 0, 1, 144, 56, 0, 0, 0, 59, 0, 52, 114, 225, 0, 0, 0, 89, 5, 146, 152, 25, 0, 0, 0, 119, 6, 119, 219, 240, 0, 0, 0, 74, 6, 144, 92, 121, 0, 0, 0, 104]
abbrev dktX9_does_1 : List UInt8 := dkwX9_does_1 ++ dktX9_does_2
def dkwX9_does_0 : List UInt8 := [43, 42, 180, 0, 15, 182, 0, 19, 61, 42, 180, 0, 9, 78, 2, 54, 4, 45, 182, 0, 25]
abbrev dktX9_does_0 : List UInt8 := dkwX9_does_0 ++ dktX9_does_1
theorem dksX9_does_0 : cX9_does.data.toList.drop 0 = dktX9_does_0 := by decide +kernel
theorem dksX9_does_1 : cX9_does.data.toList.drop 21 = dktX9_does_1 := dk_seg dksX9_does_0 21 rfl rfl
theorem dksX9_does_2 : cX9_does.data.toList.drop 80 = dktX9_does_2 := dk_seg dksX9_does_1 59 rfl rfl
theorem dksX9_does_3 : cX9_does.data.toList.drop 104 = dktX9_does_3 := dk_seg dksX9_does_2 24 rfl rfl
theorem dksX9_does_4 : cX9_does.data.toList.drop 128 = dktX9_does_4 := dk_seg dksX9_does_3 24 rfl rfl
theorem dksX9_does_5 : cX9_does.data.toList.drop 152 = dktX9_does_5 := dk_seg dksX9_does_4 24 rfl rfl
theorem dksX9_does_6 : cX9_does.data.toList.drop 169 = dktX9_does_6 := dk_seg dksX9_does_5 17 rfl rfl
theorem dksX9_does_7 : cX9_does.data.toList.drop 208 = dktX9_does_7 := dk_seg dksX9_does_6 39 rfl rfl
theorem dksX9_does_8 : cX9_does.data.toList.drop 231 = dktX9_does_8 := dk_seg dksX9_does_7 23 rfl rfl
theorem dksX9_does_9 : cX9_does.data.toList.drop 255 = dktX9_does_9 := dk_seg dksX9_does_8 24 rfl rfl
theorem dksX9_does_10 : cX9_does.data.toList.drop 277 = dktX9_does_10 := dk_seg dksX9_does_9 22 rfl rfl
theorem dksX9_does_11 : cX9_does.data.toList.drop 301 = dktX9_does_11 := dk_seg dksX9_does_10 24 rfl rfl
theorem dksX9_does_12 : cX9_does.data.toList.drop 325 = dktX9_does_12 := dk_seg dksX9_does_11 24 rfl rfl
theorem dksX9_does_13 : cX9_does.data.toList.drop 349 = dktX9_does_13 := dk_seg dksX9_does_12 24 rfl rfl
theorem dksX9_does_14 : cX9_does.data.toList.drop 372 = dktX9_does_14 := dk_seg dksX9_does_13 23 rfl rfl
theorem dksX9_does_15 : cX9_does.data.toList.drop 394 = dktX9_does_15 := dk_seg dksX9_does_14 22 rfl rfl
theorem dX9_does_0 : decode cX9_does 0 = .ok (.aload_n 1, 1) := dk_43 (dk_at dksX9_does_0 0 rfl rfl)
theorem dX9_does_1 : decode cX9_does 1 = .ok (.aload_n 0, 1) := dk_42 (dk_at dksX9_does_0 1 rfl rfl)
theorem dX9_does_2 : decode cX9_does 2 = .ok (.getfield 15, 3) := dk_180 0 15 (dk_at dksX9_does_0 2 rfl rfl)
theorem dX9_does_5 : decode cX9_does 5 = .ok (.invokevirtual 19, 3) := dk_182 0 19 (dk_at dksX9_does_0 5 rfl rfl)
theorem dX9_does_8 : decode cX9_does 8 = .ok (.istore_n 2, 1) := dk_61 (dk_at dksX9_does_0 8 rfl rfl)
theorem dX9_does_9 : decode cX9_does 9 = .ok (.aload_n 0, 1) := dk_42 (dk_at dksX9_does_0 9 rfl rfl)
theorem dX9_does_10 : decode cX9_does 10 = .ok (.getfield 9, 3) := dk_180 0 9 (dk_at dksX9_does_0 10 rfl rfl)
theorem dX9_does_13 : decode cX9_does 13 = .ok (.astore_n 3, 1) := dk_78 (dk_at dksX9_does_0 13 rfl rfl)
theorem dX9_does_14 : decode cX9_does 14 = .ok (.iconst (-1), 1) := dk_2 (dk_at dksX9_does_0 14 rfl rfl)
theorem dX9_does_15 : decode cX9_does 15 = .ok (.istore 4, 2) := dk_54 4 (dk_at dksX9_does_0 15 rfl rfl)
theorem dX9_does_17 : decode cX9_does 17 = .ok (.aload_n 3, 1) := dk_45 (dk_at dksX9_does_0 17 rfl rfl)
theorem dX9_does_18 : decode cX9_does 18 = .ok (.invokevirtual 25, 3) := dk_182 0 25 (dk_at dksX9_does_0 18 rfl rfl)
theorem dX9_does_21 : decode cX9_does 21 = .ok (.lookupswitch 146 #[(-896786014, 134), (102456, 59), (3437281, 89), (93493273, 119), (108518384, 74), (110124153, 104)], 59) := by decide +kernel
theorem dX9_does_80 : decode cX9_does 80 = .ok (.aload_n 3, 1) := dk_45 (dk_at dksX9_does_2 0 rfl rfl)
theorem dX9_does_81 : decode cX9_does 81 = .ok (.ldc 31, 2) := dk_18 31 (dk_at dksX9_does_2 1 rfl rfl)
theorem dX9_does_83 : decode cX9_does 83 = .ok (.invokevirtual 33, 3) := dk_182 0 33 (dk_at dksX9_does_2 3 rfl rfl)
theorem dX9_does_86 : decode cX9_does 86 = .ok (.ifCond .eq 81, 3) := dk_153 0 81 (dk_at dksX9_does_2 6 rfl rfl)
theorem dX9_does_89 : decode cX9_does 89 = .ok (.iconst 0, 1) := dk_3 (dk_at dksX9_does_2 9 rfl rfl)
theorem dX9_does_90 : decode cX9_does 90 = .ok (.istore 4, 2) := dk_54 4 (dk_at dksX9_does_2 10 rfl rfl)
theorem dX9_does_92 : decode cX9_does 92 = .ok (.goto 75, 3) := dk_167 0 75 (dk_at dksX9_does_2 12 rfl rfl)
theorem dX9_does_95 : decode cX9_does 95 = .ok (.aload_n 3, 1) := dk_45 (dk_at dksX9_does_2 15 rfl rfl)
theorem dX9_does_96 : decode cX9_does 96 = .ok (.ldc 37, 2) := dk_18 37 (dk_at dksX9_does_2 16 rfl rfl)
theorem dX9_does_98 : decode cX9_does 98 = .ok (.invokevirtual 33, 3) := dk_182 0 33 (dk_at dksX9_does_2 18 rfl rfl)
theorem dX9_does_101 : decode cX9_does 101 = .ok (.ifCond .eq 66, 3) := dk_153 0 66 (dk_at dksX9_does_2 21 rfl rfl)
theorem dX9_does_104 : decode cX9_does 104 = .ok (.iconst 1, 1) := dk_4 (dk_at dksX9_does_3 0 rfl rfl)
theorem dX9_does_105 : decode cX9_does 105 = .ok (.istore 4, 2) := dk_54 4 (dk_at dksX9_does_3 1 rfl rfl)
theorem dX9_does_107 : decode cX9_does 107 = .ok (.goto 60, 3) := dk_167 0 60 (dk_at dksX9_does_3 3 rfl rfl)
theorem dX9_does_110 : decode cX9_does 110 = .ok (.aload_n 3, 1) := dk_45 (dk_at dksX9_does_3 6 rfl rfl)
theorem dX9_does_111 : decode cX9_does 111 = .ok (.ldc 39, 2) := dk_18 39 (dk_at dksX9_does_3 7 rfl rfl)
theorem dX9_does_113 : decode cX9_does 113 = .ok (.invokevirtual 33, 3) := dk_182 0 33 (dk_at dksX9_does_3 9 rfl rfl)
theorem dX9_does_116 : decode cX9_does 116 = .ok (.ifCond .eq 51, 3) := dk_153 0 51 (dk_at dksX9_does_3 12 rfl rfl)
theorem dX9_does_119 : decode cX9_does 119 = .ok (.iconst 2, 1) := dk_5 (dk_at dksX9_does_3 15 rfl rfl)
theorem dX9_does_120 : decode cX9_does 120 = .ok (.istore 4, 2) := dk_54 4 (dk_at dksX9_does_3 16 rfl rfl)
theorem dX9_does_122 : decode cX9_does 122 = .ok (.goto 45, 3) := dk_167 0 45 (dk_at dksX9_does_3 18 rfl rfl)
theorem dX9_does_125 : decode cX9_does 125 = .ok (.aload_n 3, 1) := dk_45 (dk_at dksX9_does_3 21 rfl rfl)
theorem dX9_does_126 : decode cX9_does 126 = .ok (.ldc 41, 2) := dk_18 41 (dk_at dksX9_does_3 22 rfl rfl)
theorem dX9_does_128 : decode cX9_does 128 = .ok (.invokevirtual 33, 3) := dk_182 0 33 (dk_at dksX9_does_4 0 rfl rfl)
theorem dX9_does_131 : decode cX9_does 131 = .ok (.ifCond .eq 36, 3) := dk_153 0 36 (dk_at dksX9_does_4 3 rfl rfl)
theorem dX9_does_134 : decode cX9_does 134 = .ok (.iconst 3, 1) := dk_6 (dk_at dksX9_does_4 6 rfl rfl)
theorem dX9_does_135 : decode cX9_does 135 = .ok (.istore 4, 2) := dk_54 4 (dk_at dksX9_does_4 7 rfl rfl)
theorem dX9_does_137 : decode cX9_does 137 = .ok (.goto 30, 3) := dk_167 0 30 (dk_at dksX9_does_4 9 rfl rfl)
theorem dX9_does_140 : decode cX9_does 140 = .ok (.aload_n 3, 1) := dk_45 (dk_at dksX9_does_4 12 rfl rfl)
theorem dX9_does_141 : decode cX9_does 141 = .ok (.ldc 43, 2) := dk_18 43 (dk_at dksX9_does_4 13 rfl rfl)
theorem dX9_does_143 : decode cX9_does 143 = .ok (.invokevirtual 33, 3) := dk_182 0 33 (dk_at dksX9_does_4 15 rfl rfl)
theorem dX9_does_146 : decode cX9_does 146 = .ok (.ifCond .eq 21, 3) := dk_153 0 21 (dk_at dksX9_does_4 18 rfl rfl)
theorem dX9_does_149 : decode cX9_does 149 = .ok (.iconst 4, 1) := dk_7 (dk_at dksX9_does_4 21 rfl rfl)
theorem dX9_does_150 : decode cX9_does 150 = .ok (.istore 4, 2) := dk_54 4 (dk_at dksX9_does_4 22 rfl rfl)
theorem dX9_does_152 : decode cX9_does 152 = .ok (.goto 15, 3) := dk_167 0 15 (dk_at dksX9_does_5 0 rfl rfl)
theorem dX9_does_155 : decode cX9_does 155 = .ok (.aload_n 3, 1) := dk_45 (dk_at dksX9_does_5 3 rfl rfl)
theorem dX9_does_156 : decode cX9_does 156 = .ok (.ldc 45, 2) := dk_18 45 (dk_at dksX9_does_5 4 rfl rfl)
theorem dX9_does_158 : decode cX9_does 158 = .ok (.invokevirtual 33, 3) := dk_182 0 33 (dk_at dksX9_does_5 6 rfl rfl)
theorem dX9_does_161 : decode cX9_does 161 = .ok (.ifCond .eq 6, 3) := dk_153 0 6 (dk_at dksX9_does_5 9 rfl rfl)
theorem dX9_does_164 : decode cX9_does 164 = .ok (.iconst 5, 1) := dk_8 (dk_at dksX9_does_5 12 rfl rfl)
theorem dX9_does_165 : decode cX9_does 165 = .ok (.istore 4, 2) := dk_54 4 (dk_at dksX9_does_5 13 rfl rfl)
theorem dX9_does_167 : decode cX9_does 167 = .ok (.iload 4, 2) := dk_21 4 (dk_at dksX9_does_5 15 rfl rfl)
theorem dX9_does_169 : decode cX9_does 169 = .ok (.tableswitch 224 0 5 #[39, 71, 117, 135, 181, 206], 39) := by decide +kernel
theorem dX9_does_208 : decode cX9_does 208 = .ok (.iload_n 2, 1) := dk_28 (dk_at dksX9_does_7 0 rfl rfl)
theorem dX9_does_209 : decode cX9_does 209 = .ok (.ifCond .eq 28, 3) := dk_153 0 28 (dk_at dksX9_does_7 1 rfl rfl)
theorem dX9_does_212 : decode cX9_does 212 = .ok (.aload_n 0, 1) := dk_42 (dk_at dksX9_does_7 4 rfl rfl)
theorem dX9_does_213 : decode cX9_does 213 = .ok (.getfield 47, 3) := dk_180 0 47 (dk_at dksX9_does_7 5 rfl rfl)
theorem dX9_does_216 : decode cX9_does 216 = .ok (.invokestatic 50, 3) := dk_184 0 50 (dk_at dksX9_does_7 8 rfl rfl)
theorem dX9_does_219 : decode cX9_does 219 = .ok (.ifCond .eq 18, 3) := dk_153 0 18 (dk_at dksX9_does_7 11 rfl rfl)
theorem dX9_does_222 : decode cX9_does 222 = .ok (.aload_n 1, 1) := dk_43 (dk_at dksX9_does_7 14 rfl rfl)
theorem dX9_does_223 : decode cX9_does 223 = .ok (.aload_n 0, 1) := dk_42 (dk_at dksX9_does_7 15 rfl rfl)
theorem dX9_does_224 : decode cX9_does 224 = .ok (.getfield 15, 3) := dk_180 0 15 (dk_at dksX9_does_7 16 rfl rfl)
theorem dX9_does_227 : decode cX9_does 227 = .ok (.aload_n 0, 1) := dk_42 (dk_at dksX9_does_7 19 rfl rfl)
theorem dX9_does_228 : decode cX9_does 228 = .ok (.getfield 47, 3) := dk_180 0 47 (dk_at dksX9_does_7 20 rfl rfl)
theorem dX9_does_231 : decode cX9_does 231 = .ok (.invokevirtual 53, 3) := dk_182 0 53 (dk_at dksX9_does_8 0 rfl rfl)
theorem dX9_does_234 : decode cX9_does 234 = .ok (.goto 5, 3) := dk_167 0 5 (dk_at dksX9_does_8 3 rfl rfl)
theorem dX9_does_237 : decode cX9_does 237 = .ok (.bipush (-11), 2) := dk_16 245 (dk_at dksX9_does_8 6 rfl rfl)
theorem dX9_does_239 : decode cX9_does 239 = .ok (.ireturn, 1) := dk_172 (dk_at dksX9_does_8 8 rfl rfl)
theorem dX9_does_240 : decode cX9_does 240 = .ok (.iload_n 2, 1) := dk_28 (dk_at dksX9_does_8 9 rfl rfl)
theorem dX9_does_241 : decode cX9_does 241 = .ok (.ifCond .eq 42, 3) := dk_153 0 42 (dk_at dksX9_does_8 10 rfl rfl)
theorem dX9_does_244 : decode cX9_does 244 = .ok (.aload_n 0, 1) := dk_42 (dk_at dksX9_does_8 13 rfl rfl)
theorem dX9_does_245 : decode cX9_does 245 = .ok (.getfield 47, 3) := dk_180 0 47 (dk_at dksX9_does_8 14 rfl rfl)
theorem dX9_does_248 : decode cX9_does 248 = .ok (.invokestatic 57, 3) := dk_184 0 57 (dk_at dksX9_does_8 17 rfl rfl)
theorem dX9_does_251 : decode cX9_does 251 = .ok (.ifCond .eq 32, 3) := dk_153 0 32 (dk_at dksX9_does_8 20 rfl rfl)
theorem dX9_does_254 : decode cX9_does 254 = .ok (.aload_n 0, 1) := dk_42 (dk_at dksX9_does_8 23 rfl rfl)
theorem dX9_does_255 : decode cX9_does 255 = .ok (.getfield 60, 3) := dk_180 0 60 (dk_at dksX9_does_9 0 rfl rfl)
theorem dX9_does_258 : decode cX9_does 258 = .ok (.invokestatic 63, 3) := dk_184 0 63 (dk_at dksX9_does_9 3 rfl rfl)
theorem dX9_does_261 : decode cX9_does 261 = .ok (.ifCond .eq 22, 3) := dk_153 0 22 (dk_at dksX9_does_9 6 rfl rfl)
theorem dX9_does_264 : decode cX9_does 264 = .ok (.aload_n 1, 1) := dk_43 (dk_at dksX9_does_9 9 rfl rfl)
theorem dX9_does_265 : decode cX9_does 265 = .ok (.aload_n 0, 1) := dk_42 (dk_at dksX9_does_9 10 rfl rfl)
theorem dX9_does_266 : decode cX9_does 266 = .ok (.getfield 15, 3) := dk_180 0 15 (dk_at dksX9_does_9 11 rfl rfl)
theorem dX9_does_269 : decode cX9_does 269 = .ok (.aload_n 0, 1) := dk_42 (dk_at dksX9_does_9 14 rfl rfl)
theorem dX9_does_270 : decode cX9_does 270 = .ok (.getfield 47, 3) := dk_180 0 47 (dk_at dksX9_does_9 15 rfl rfl)
theorem dX9_does_273 : decode cX9_does 273 = .ok (.aload_n 0, 1) := dk_42 (dk_at dksX9_does_9 18 rfl rfl)
theorem dX9_does_274 : decode cX9_does 274 = .ok (.getfield 60, 3) := dk_180 0 60 (dk_at dksX9_does_9 19 rfl rfl)
theorem dX9_does_277 : decode cX9_does 277 = .ok (.invokevirtual 66, 3) := dk_182 0 66 (dk_at dksX9_does_10 0 rfl rfl)
theorem dX9_does_280 : decode cX9_does 280 = .ok (.goto 5, 3) := dk_167 0 5 (dk_at dksX9_does_10 3 rfl rfl)
theorem dX9_does_283 : decode cX9_does 283 = .ok (.bipush (-11), 2) := dk_16 245 (dk_at dksX9_does_10 6 rfl rfl)
theorem dX9_does_285 : decode cX9_does 285 = .ok (.ireturn, 1) := dk_172 (dk_at dksX9_does_10 8 rfl rfl)
theorem dX9_does_286 : decode cX9_does 286 = .ok (.iload_n 2, 1) := dk_28 (dk_at dksX9_does_10 9 rfl rfl)
theorem dX9_does_287 : decode cX9_does 287 = .ok (.ifCond .eq 14, 3) := dk_153 0 14 (dk_at dksX9_does_10 10 rfl rfl)
theorem dX9_does_290 : decode cX9_does 290 = .ok (.aload_n 1, 1) := dk_43 (dk_at dksX9_does_10 13 rfl rfl)
theorem dX9_does_291 : decode cX9_does 291 = .ok (.aload_n 0, 1) := dk_42 (dk_at dksX9_does_10 14 rfl rfl)
theorem dX9_does_292 : decode cX9_does 292 = .ok (.getfield 15, 3) := dk_180 0 15 (dk_at dksX9_does_10 15 rfl rfl)
theorem dX9_does_295 : decode cX9_does 295 = .ok (.invokevirtual 70, 3) := dk_182 0 70 (dk_at dksX9_does_10 18 rfl rfl)
theorem dX9_does_298 : decode cX9_does 298 = .ok (.goto 5, 3) := dk_167 0 5 (dk_at dksX9_does_10 21 rfl rfl)
theorem dX9_does_301 : decode cX9_does 301 = .ok (.bipush (-11), 2) := dk_16 245 (dk_at dksX9_does_11 0 rfl rfl)
theorem dX9_does_303 : decode cX9_does 303 = .ok (.ireturn, 1) := dk_172 (dk_at dksX9_does_11 2 rfl rfl)
theorem dX9_does_304 : decode cX9_does 304 = .ok (.iload_n 2, 1) := dk_28 (dk_at dksX9_does_11 3 rfl rfl)
theorem dX9_does_305 : decode cX9_does 305 = .ok (.ifCond .eq 42, 3) := dk_153 0 42 (dk_at dksX9_does_11 4 rfl rfl)
theorem dX9_does_308 : decode cX9_does 308 = .ok (.aload_n 0, 1) := dk_42 (dk_at dksX9_does_11 7 rfl rfl)
theorem dX9_does_309 : decode cX9_does 309 = .ok (.getfield 47, 3) := dk_180 0 47 (dk_at dksX9_does_11 8 rfl rfl)
theorem dX9_does_312 : decode cX9_does 312 = .ok (.invokestatic 57, 3) := dk_184 0 57 (dk_at dksX9_does_11 11 rfl rfl)
theorem dX9_does_315 : decode cX9_does 315 = .ok (.ifCond .eq 32, 3) := dk_153 0 32 (dk_at dksX9_does_11 14 rfl rfl)
theorem dX9_does_318 : decode cX9_does 318 = .ok (.aload_n 0, 1) := dk_42 (dk_at dksX9_does_11 17 rfl rfl)
theorem dX9_does_319 : decode cX9_does 319 = .ok (.getfield 60, 3) := dk_180 0 60 (dk_at dksX9_does_11 18 rfl rfl)
theorem dX9_does_322 : decode cX9_does 322 = .ok (.invokestatic 74, 3) := dk_184 0 74 (dk_at dksX9_does_11 21 rfl rfl)
theorem dX9_does_325 : decode cX9_does 325 = .ok (.ifCond .eq 22, 3) := dk_153 0 22 (dk_at dksX9_does_12 0 rfl rfl)
theorem dX9_does_328 : decode cX9_does 328 = .ok (.aload_n 1, 1) := dk_43 (dk_at dksX9_does_12 3 rfl rfl)
theorem dX9_does_329 : decode cX9_does 329 = .ok (.aload_n 0, 1) := dk_42 (dk_at dksX9_does_12 4 rfl rfl)
theorem dX9_does_330 : decode cX9_does 330 = .ok (.getfield 15, 3) := dk_180 0 15 (dk_at dksX9_does_12 5 rfl rfl)
theorem dX9_does_333 : decode cX9_does 333 = .ok (.aload_n 0, 1) := dk_42 (dk_at dksX9_does_12 8 rfl rfl)
theorem dX9_does_334 : decode cX9_does 334 = .ok (.getfield 47, 3) := dk_180 0 47 (dk_at dksX9_does_12 9 rfl rfl)
theorem dX9_does_337 : decode cX9_does 337 = .ok (.aload_n 0, 1) := dk_42 (dk_at dksX9_does_12 12 rfl rfl)
theorem dX9_does_338 : decode cX9_does 338 = .ok (.getfield 60, 3) := dk_180 0 60 (dk_at dksX9_does_12 13 rfl rfl)
theorem dX9_does_341 : decode cX9_does 341 = .ok (.invokevirtual 77, 3) := dk_182 0 77 (dk_at dksX9_does_12 16 rfl rfl)
theorem dX9_does_344 : decode cX9_does 344 = .ok (.goto 5, 3) := dk_167 0 5 (dk_at dksX9_does_12 19 rfl rfl)
theorem dX9_does_347 : decode cX9_does 347 = .ok (.bipush (-11), 2) := dk_16 245 (dk_at dksX9_does_12 22 rfl rfl)
theorem dX9_does_349 : decode cX9_does 349 = .ok (.ireturn, 1) := dk_172 (dk_at dksX9_does_13 0 rfl rfl)
theorem dX9_does_350 : decode cX9_does 350 = .ok (.aload_n 1, 1) := dk_43 (dk_at dksX9_does_13 1 rfl rfl)
theorem dX9_does_351 : decode cX9_does 351 = .ok (.aload_n 0, 1) := dk_42 (dk_at dksX9_does_13 2 rfl rfl)
theorem dX9_does_352 : decode cX9_does 352 = .ok (.getfield 15, 3) := dk_180 0 15 (dk_at dksX9_does_13 3 rfl rfl)
theorem dX9_does_355 : decode cX9_does 355 = .ok (.invokevirtual 80, 3) := dk_182 0 80 (dk_at dksX9_does_13 6 rfl rfl)
theorem dX9_does_358 : decode cX9_does 358 = .ok (.ifCond .eq 14, 3) := dk_153 0 14 (dk_at dksX9_does_13 9 rfl rfl)
theorem dX9_does_361 : decode cX9_does 361 = .ok (.aload_n 1, 1) := dk_43 (dk_at dksX9_does_13 12 rfl rfl)
theorem dX9_does_362 : decode cX9_does 362 = .ok (.aload_n 0, 1) := dk_42 (dk_at dksX9_does_13 13 rfl rfl)
theorem dX9_does_363 : decode cX9_does 363 = .ok (.getfield 15, 3) := dk_180 0 15 (dk_at dksX9_does_13 14 rfl rfl)
theorem dX9_does_366 : decode cX9_does 366 = .ok (.invokevirtual 83, 3) := dk_182 0 83 (dk_at dksX9_does_13 17 rfl rfl)
theorem dX9_does_369 : decode cX9_does 369 = .ok (.goto 5, 3) := dk_167 0 5 (dk_at dksX9_does_13 20 rfl rfl)
theorem dX9_does_372 : decode cX9_does 372 = .ok (.bipush (-11), 2) := dk_16 245 (dk_at dksX9_does_14 0 rfl rfl)
theorem dX9_does_374 : decode cX9_does 374 = .ok (.ireturn, 1) := dk_172 (dk_at dksX9_does_14 2 rfl rfl)
theorem dX9_does_375 : decode cX9_does 375 = .ok (.iload_n 2, 1) := dk_28 (dk_at dksX9_does_14 3 rfl rfl)
theorem dX9_does_376 : decode cX9_does 376 = .ok (.ifCond .eq 14, 3) := dk_153 0 14 (dk_at dksX9_does_14 4 rfl rfl)
theorem dX9_does_379 : decode cX9_does 379 = .ok (.aload_n 1, 1) := dk_43 (dk_at dksX9_does_14 7 rfl rfl)
theorem dX9_does_380 : decode cX9_does 380 = .ok (.aload_n 0, 1) := dk_42 (dk_at dksX9_does_14 8 rfl rfl)
theorem dX9_does_381 : decode cX9_does 381 = .ok (.getfield 15, 3) := dk_180 0 15 (dk_at dksX9_does_14 9 rfl rfl)
theorem dX9_does_384 : decode cX9_does 384 = .ok (.invokevirtual 86, 3) := dk_182 0 86 (dk_at dksX9_does_14 12 rfl rfl)
theorem dX9_does_387 : decode cX9_does 387 = .ok (.goto 5, 3) := dk_167 0 5 (dk_at dksX9_does_14 15 rfl rfl)
theorem dX9_does_390 : decode cX9_does 390 = .ok (.bipush (-11), 2) := dk_16 245 (dk_at dksX9_does_14 18 rfl rfl)
theorem dX9_does_392 : decode cX9_does 392 = .ok (.ireturn, 1) := dk_172 (dk_at dksX9_does_14 20 rfl rfl)
theorem dX9_does_393 : decode cX9_does 393 = .ok (.aload_n 1, 1) := dk_43 (dk_at dksX9_does_14 21 rfl rfl)
theorem dX9_does_394 : decode cX9_does 394 = .ok (.invokevirtual 89, 3) := dk_182 0 89 (dk_at dksX9_does_15 0 rfl rfl)
theorem dX9_does_397 : decode cX9_does 397 = .ok (.ireturn, 1) := dk_172 (dk_at dksX9_does_15 3 rfl rfl)
theorem q104 : (Jvm.Cond.initialized "BrushSellers$Order") ∈ lw_all := lw_g (lw_at lw_m1 41 rfl) rfl
theorem q263 : (Jvm.Cond.selects "BrushSellers$Order" ({ cls := "java/lang/Object", name := "getClass", desc := "()Ljava/lang/Class;" } : Jvm.MethodName) ({ cls := "java/lang/Object", name := "getClass", desc := "()Ljava/lang/Class;" } : Jvm.MethodName)) ∈ lw_all := lw_g (lw_at lw_m1 200 rfl) rfl
theorem q1491 : (Jvm.Cond.instantiable "BrushSellers$Order" (4 : Nat)) ∈ lw_all := lw_g (lw_at lw_m6 228 rfl) rfl
theorem q1573 : (Jvm.Cond.instanceMethod ({ cls := "BrushSellers$Order", name := "<init>", desc := "(Ljava/lang/String;)V" } : Jvm.MethodName)) ∈ lw_all := lw_g (lw_at lw_m7 70 rfl) rfl
theorem q1574 : (Jvm.Cond.code ({ cls := "BrushSellers$Order", name := "<init>", desc := "(Ljava/lang/String;)V" } : Jvm.MethodName) prog_4_method_1_code (2 : Nat) (Option.none : Option Jvm.ClassFile.FieldType)) ∈ lw_all := lw_g (lw_at lw_m7 71 rfl) rfl
theorem q1575 : (Jvm.Cond.methodLink "BrushSellers$Order" (3 : Nat) ({ cls := "java/lang/Object", name := "<init>", desc := "()V" } : Jvm.MethodName)) ∈ lw_all := lw_g (lw_at lw_m7 72 rfl) rfl
theorem q1576 : (Jvm.Cond.fieldLink "BrushSellers$Order" (9 : Nat) "BrushSellers$Order" "word" "Ljava/lang/String;") ∈ lw_all := lw_g (lw_at lw_m7 73 rfl) rfl
theorem q1578 : (Jvm.Cond.fieldLink "BrushSellers$Order" (15 : Nat) "BrushSellers$Order" "one" "I") ∈ lw_all := lw_g (lw_at lw_m7 75 rfl) rfl
theorem q1580 : (Jvm.Cond.fieldLink "BrushSellers$Order" (47 : Nat) "BrushSellers$Order" "two" "I") ∈ lw_all := lw_g (lw_at lw_m7 77 rfl) rfl
theorem q1582 : (Jvm.Cond.fieldLink "BrushSellers$Order" (60 : Nat) "BrushSellers$Order" "three" "I") ∈ lw_all := lw_g (lw_at lw_m7 79 rfl) rfl
theorem q1584 : (Jvm.Cond.laysFinal "BrushSellers$Order" "BrushSellers$Order" "word" "Ljava/lang/String;") ∈ lw_all := lw_g (lw_at lw_m7 81 rfl) rfl
theorem q1585 : (Jvm.Cond.soleField "BrushSellers$Order" "word") ∈ lw_all := lw_g (lw_at lw_m7 82 rfl) rfl
theorem q1586 : (Jvm.Cond.lays "BrushSellers$Order" "BrushSellers$Order" "one" "I") ∈ lw_all := lw_g (lw_at lw_m7 83 rfl) rfl
theorem q1587 : (Jvm.Cond.soleField "BrushSellers$Order" "one") ∈ lw_all := lw_g (lw_at lw_m7 84 rfl) rfl
theorem q1588 : (Jvm.Cond.lays "BrushSellers$Order" "BrushSellers$Order" "two" "I") ∈ lw_all := lw_g (lw_at lw_m7 85 rfl) rfl
theorem q1589 : (Jvm.Cond.soleField "BrushSellers$Order" "two") ∈ lw_all := lw_g (lw_at lw_m7 86 rfl) rfl
theorem q1590 : (Jvm.Cond.lays "BrushSellers$Order" "BrushSellers$Order" "three" "I") ∈ lw_all := lw_g (lw_at lw_m7 87 rfl) rfl
theorem q1591 : (Jvm.Cond.soleField "BrushSellers$Order" "three") ∈ lw_all := lw_g (lw_at lw_m7 88 rfl) rfl
theorem q1592 : (Jvm.Cond.superclass "BrushSellers$Order" "java/lang/Object") ∈ lw_all := lw_g (lw_at lw_m7 89 rfl) rfl
theorem q1671 : (Jvm.Cond.instanceMethod ({ cls := "BrushSellers$Order", name := "isDone", desc := "(LBrushSellers$Company;)Z" } : Jvm.MethodName)) ∈ lw_all := lw_g (lw_at lw_m7 168 rfl) rfl
theorem q1672 : (Jvm.Cond.selects "BrushSellers$Order" ({ cls := "BrushSellers$Order", name := "isDone", desc := "(LBrushSellers$Company;)Z" } : Jvm.MethodName) ({ cls := "BrushSellers$Order", name := "isDone", desc := "(LBrushSellers$Company;)Z" } : Jvm.MethodName)) ∈ lw_all := lw_g (lw_at lw_m7 169 rfl) rfl
theorem q1673 : (Jvm.Cond.codeWith ({ cls := "BrushSellers$Order", name := "isDone", desc := "(LBrushSellers$Company;)Z" } : Jvm.MethodName) prog_4_method_3_code (3 : Nat) (Option.some Jvm.ClassFile.FieldType.boolean) [((0 : Nat), (13 : Nat), (14 : Nat), (96 : Nat))]) ∈ lw_all := lw_g (lw_at lw_m7 170 rfl) rfl
theorem q1674 : (Jvm.Cond.classLink "BrushSellers$Order" (96 : Nat) "BrushSellers$Refused") ∈ lw_all := lw_g (lw_at lw_m7 171 rfl) rfl
theorem q1675 : (Jvm.Cond.methodLink "BrushSellers$Order" (92 : Nat) ({ cls := "BrushSellers$Order", name := "does", desc := "(LBrushSellers$Company;)I" } : Jvm.MethodName)) ∈ lw_all := lw_g (lw_at lw_m7 172 rfl) rfl
theorem q1676 : (Jvm.Cond.privateMethod ({ cls := "BrushSellers$Order", name := "does", desc := "(LBrushSellers$Company;)I" } : Jvm.MethodName)) ∈ lw_tbl := lw_at lw_m7 173 rfl
theorem q1677 : (Jvm.Cond.instanceMethod ({ cls := "BrushSellers$Order", name := "does", desc := "(LBrushSellers$Company;)I" } : Jvm.MethodName)) ∈ lw_all := lw_g (lw_at lw_m7 174 rfl) rfl
theorem q1678 : (Jvm.Cond.code ({ cls := "BrushSellers$Order", name := "does", desc := "(LBrushSellers$Company;)I" } : Jvm.MethodName) prog_4_method_2_code (5 : Nat) (Option.some Jvm.ClassFile.FieldType.int)) ∈ lw_all := lw_g (lw_at lw_m7 175 rfl) rfl
theorem q1679 : (Jvm.Cond.methodLink "BrushSellers$Order" (19 : Nat) ({ cls := "BrushSellers$Company", name := "isSeller", desc := "(I)Z" } : Jvm.MethodName)) ∈ lw_all := lw_g (lw_at lw_m7 176 rfl) rfl
theorem q1680 : (Jvm.Cond.methodLink "BrushSellers$Order" (25 : Nat) ({ cls := "java/lang/String", name := "hashCode", desc := "()I" } : Jvm.MethodName)) ∈ lw_all := lw_g (lw_at lw_m7 177 rfl) rfl
theorem q1681 : (Jvm.Cond.stringRef "BrushSellers$Order" (31 : Nat) "go ") ∈ lw_tbl := lw_at lw_m7 178 rfl
theorem q1682 : (Jvm.Cond.methodLink "BrushSellers$Order" (33 : Nat) ({ cls := "java/lang/String", name := "equals", desc := "(Ljava/lang/Object;)Z" } : Jvm.MethodName)) ∈ lw_all := lw_g (lw_at lw_m7 179 rfl) rfl
theorem q1683 : (Jvm.Cond.stringRef "BrushSellers$Order" (37 : Nat) "ring ") ∈ lw_tbl := lw_at lw_m7 180 rfl
theorem q1684 : (Jvm.Cond.stringRef "BrushSellers$Order" (39 : Nat) "pet ") ∈ lw_tbl := lw_at lw_m7 181 rfl
theorem q1685 : (Jvm.Cond.stringRef "BrushSellers$Order" (41 : Nat) "take ") ∈ lw_tbl := lw_at lw_m7 182 rfl
theorem q1686 : (Jvm.Cond.stringRef "BrushSellers$Order" (43 : Nat) "back ") ∈ lw_tbl := lw_at lw_m7 183 rfl
theorem q1687 : (Jvm.Cond.stringRef "BrushSellers$Order" (45 : Nat) "soles ") ∈ lw_tbl := lw_at lw_m7 184 rfl
theorem q1688 : (Jvm.Cond.methodLinkNest "BrushSellers$Order" (50 : Nat) ({ cls := "BrushSellers", name := "isHouse", desc := "(I)Z" } : Jvm.MethodName) "BrushSellers") ∈ lw_tbl := lw_at lw_m7 185 rfl
theorem q1689 : (Jvm.Cond.methodLink "BrushSellers$Order" (53 : Nat) ({ cls := "BrushSellers$Company", name := "goes", desc := "(II)I" } : Jvm.MethodName)) ∈ lw_all := lw_g (lw_at lw_m7 186 rfl) rfl
theorem q1690 : (Jvm.Cond.methodLinkNest "BrushSellers$Order" (57 : Nat) ({ cls := "BrushSellers", name := "isBristle", desc := "(I)Z" } : Jvm.MethodName) "BrushSellers") ∈ lw_tbl := lw_at lw_m7 187 rfl
theorem q1691 : (Jvm.Cond.methodLinkNest "BrushSellers$Order" (63 : Nat) ({ cls := "BrushSellers", name := "isPrice", desc := "(I)Z" } : Jvm.MethodName) "BrushSellers") ∈ lw_tbl := lw_at lw_m7 188 rfl
theorem q1692 : (Jvm.Cond.methodLink "BrushSellers$Order" (66 : Nat) ({ cls := "BrushSellers$Company", name := "rings", desc := "(III)I" } : Jvm.MethodName)) ∈ lw_all := lw_g (lw_at lw_m7 189 rfl) rfl
theorem q1693 : (Jvm.Cond.methodLink "BrushSellers$Order" (70 : Nat) ({ cls := "BrushSellers$Company", name := "pets", desc := "(I)I" } : Jvm.MethodName)) ∈ lw_all := lw_g (lw_at lw_m7 190 rfl) rfl
theorem q1694 : (Jvm.Cond.methodLinkNest "BrushSellers$Order" (74 : Nat) ({ cls := "BrushSellers", name := "areTaken", desc := "(I)Z" } : Jvm.MethodName) "BrushSellers") ∈ lw_tbl := lw_at lw_m7 191 rfl
theorem q1695 : (Jvm.Cond.methodLink "BrushSellers$Order" (77 : Nat) ({ cls := "BrushSellers$Company", name := "takes", desc := "(III)I" } : Jvm.MethodName)) ∈ lw_all := lw_g (lw_at lw_m7 192 rfl) rfl
theorem q1696 : (Jvm.Cond.methodLink "BrushSellers$Order" (80 : Nat) ({ cls := "BrushSellers$Company", name := "isSale", desc := "(I)Z" } : Jvm.MethodName)) ∈ lw_all := lw_g (lw_at lw_m7 193 rfl) rfl
theorem q1697 : (Jvm.Cond.methodLink "BrushSellers$Order" (83 : Nat) ({ cls := "BrushSellers$Company", name := "takesBack", desc := "(I)I" } : Jvm.MethodName)) ∈ lw_all := lw_g (lw_at lw_m7 194 rfl) rfl
theorem q1698 : (Jvm.Cond.methodLink "BrushSellers$Order" (86 : Nat) ({ cls := "BrushSellers$Company", name := "soles", desc := "(I)I" } : Jvm.MethodName)) ∈ lw_all := lw_g (lw_at lw_m7 195 rfl) rfl
theorem q1699 : (Jvm.Cond.methodLink "BrushSellers$Order" (89 : Nat) ({ cls := "BrushSellers$Company", name := "dayEnds", desc := "()I" } : Jvm.MethodName)) ∈ lw_all := lw_g (lw_at lw_m7 196 rfl) rfl
theorem q2272 : (Jvm.Cond.castable "BrushSellers$Order" "java/lang/Object") ∈ lw_tbl := lw_at lw_m10 49 rfl
theorem in_X9 : ∀ w ∈ wsX90, w ∈ lw_all := lw_in wsX90 [1584, 1586, 1588, 1590] (by decide +kernel) (by decide +kernel)

theorem q63 : (Jvm.Cond.initialized "BrushSellersLaw") ∈ lw_all := lw_g (lw_at lw_m1 0 rfl) rfl
set_option maxRecDepth 100000
theorem q106 : (Jvm.Cond.classLink "BrushSellersLaw" (7 : Nat) "BrushSellers") ∈ lw_all := lw_g (lw_at lw_m1 43 rfl) rfl
theorem q108 : (Jvm.Cond.methodLink "BrushSellersLaw" (9 : Nat) ({ cls := "BrushSellers", name := "<init>", desc := "()V" } : Jvm.MethodName)) ∈ lw_all := lw_g (lw_at lw_m1 45 rfl) rfl
theorem q426 : (Jvm.Cond.methodLink "BrushSellersLaw" (13 : Nat) ({ cls := "BrushSellers", name := "seller", desc := "(I)I" } : Jvm.MethodName)) ∈ lw_all := lw_g (lw_at lw_m2 123 rfl) rfl
theorem q1127 : (Jvm.Cond.methodLink "BrushSellersLaw" (18 : Nat) ({ cls := "BrushSellers", name := "dog", desc := "(II)I" } : Jvm.MethodName)) ∈ lw_all := lw_g (lw_at lw_m5 104 rfl) rfl
theorem q1142 : (Jvm.Cond.methodLink "BrushSellersLaw" (23 : Nat) ({ cls := "BrushSellers", name := "make", desc := "(II)I" } : Jvm.MethodName)) ∈ lw_all := lw_g (lw_at lw_m5 119 rfl) rfl
theorem q1157 : (Jvm.Cond.methodLink "BrushSellersLaw" (27 : Nat) ({ cls := "BrushSellers", name := "take", desc := "(III)I" } : Jvm.MethodName)) ∈ lw_all := lw_g (lw_at lw_m5 134 rfl) rfl
theorem q1207 : (Jvm.Cond.methodLink "BrushSellersLaw" (32 : Nat) ({ cls := "BrushSellers", name := "sellerOf", desc := "(II)I" } : Jvm.MethodName)) ∈ lw_all := lw_g (lw_at lw_m5 184 rfl) rfl
theorem q1217 : (Jvm.Cond.methodLink "BrushSellersLaw" (36 : Nat) ({ cls := "BrushSellers", name := "houseOf", desc := "(II)I" } : Jvm.MethodName)) ∈ lw_all := lw_g (lw_at lw_m5 194 rfl) rfl
theorem q1246 : (Jvm.Cond.methodLink "BrushSellersLaw" (40 : Nat) ({ cls := "BrushSellers", name := "depot", desc := "(I)I" } : Jvm.MethodName)) ∈ lw_all := lw_g (lw_at lw_m5 223 rfl) rfl
theorem q1250 : (Jvm.Cond.methodLink "BrushSellersLaw" (44 : Nat) ({ cls := "BrushSellers", name := "go", desc := "(II)I" } : Jvm.MethodName)) ∈ lw_all := lw_g (lw_at lw_m5 227 rfl) rfl
theorem q1282 : (Jvm.Cond.methodLink "BrushSellersLaw" (48 : Nat) ({ cls := "BrushSellers", name := "soles", desc := "(I)I" } : Jvm.MethodName)) ∈ lw_all := lw_g (lw_at lw_m6 19 rfl) rfl
theorem q1290 : (Jvm.Cond.methodLink "BrushSellersLaw" (52 : Nat) ({ cls := "BrushSellers", name := "pet", desc := "(I)I" } : Jvm.MethodName)) ∈ lw_all := lw_g (lw_at lw_m6 27 rfl) rfl
theorem q1303 : (Jvm.Cond.methodLink "BrushSellersLaw" (56 : Nat) ({ cls := "BrushSellers", name := "rounds", desc := "(II)I" } : Jvm.MethodName)) ∈ lw_all := lw_g (lw_at lw_m6 40 rfl) rfl
theorem q1311 : (Jvm.Cond.methodLink "BrushSellersLaw" (60 : Nat) ({ cls := "BrushSellers", name := "roundsAgain", desc := "(II)I" } : Jvm.MethodName)) ∈ lw_all := lw_g (lw_at lw_m6 48 rfl) rfl
theorem q1319 : (Jvm.Cond.methodLink "BrushSellersLaw" (64 : Nat) ({ cls := "BrushSellers", name := "would", desc := "(IIII)I" } : Jvm.MethodName)) ∈ lw_all := lw_g (lw_at lw_m6 56 rfl) rfl
theorem q1345 : (Jvm.Cond.methodLink "BrushSellersLaw" (69 : Nat) ({ cls := "BrushSellers", name := "bestHouse", desc := "(III)I" } : Jvm.MethodName)) ∈ lw_all := lw_g (lw_at lw_m6 82 rfl) rfl
theorem q1354 : (Jvm.Cond.methodLink "BrushSellersLaw" (73 : Nat) ({ cls := "BrushSellers", name := "ring", desc := "(III)I" } : Jvm.MethodName)) ∈ lw_all := lw_g (lw_at lw_m6 91 rfl) rfl
theorem q1390 : (Jvm.Cond.methodLink "BrushSellersLaw" (77 : Nat) ({ cls := "BrushSellers", name := "back", desc := "(I)I" } : Jvm.MethodName)) ∈ lw_all := lw_g (lw_at lw_m6 127 rfl) rfl
theorem q1403 : (Jvm.Cond.methodLink "BrushSellersLaw" (81 : Nat) ({ cls := "BrushSellers", name := "saleOf", desc := "(II)I" } : Jvm.MethodName)) ∈ lw_all := lw_g (lw_at lw_m6 140 rfl) rfl
theorem q1413 : (Jvm.Cond.methodLink "BrushSellersLaw" (85 : Nat) ({ cls := "BrushSellers", name := "day", desc := "()I" } : Jvm.MethodName)) ∈ lw_all := lw_g (lw_at lw_m6 150 rfl) rfl
theorem q1425 : (Jvm.Cond.methodLink "BrushSellersLaw" (90 : Nat) ({ cls := "BrushSellers", name := "append", desc := "(I)I" } : Jvm.MethodName)) ∈ lw_all := lw_g (lw_at lw_m6 162 rfl) rfl
theorem q1450 : (Jvm.Cond.methodLink "BrushSellersLaw" (94 : Nat) ({ cls := "BrushSellers", name := "run", desc := "()I" } : Jvm.MethodName)) ∈ lw_all := lw_g (lw_at lw_m6 187 rfl) rfl
theorem q1721 : (Jvm.Cond.methodLink "BrushSellersLaw" (98 : Nat) ({ cls := "BrushSellers", name := "tell", desc := "(I)I" } : Jvm.MethodName)) ∈ lw_all := lw_g (lw_at lw_m7 218 rfl) rfl
theorem q1764 : (Jvm.Cond.methodLink "BrushSellersLaw" (102 : Nat) ({ cls := "BrushSellers", name := "tellStreet", desc := "()I" } : Jvm.MethodName)) ∈ lw_all := lw_g (lw_at lw_m8 21 rfl) rfl
theorem q1789 : (Jvm.Cond.methodLink "BrushSellersLaw" (106 : Nat) ({ cls := "BrushSellers", name := "character", desc := "(I)I" } : Jvm.MethodName)) ∈ lw_all := lw_g (lw_at lw_m8 46 rfl) rfl
theorem q1794 : (Jvm.Cond.methodLink "BrushSellersLaw" (110 : Nat) ({ cls := "BrushSellers", name := "reason", desc := "(Z)I" } : Jvm.MethodName)) ∈ lw_all := lw_g (lw_at lw_m8 51 rfl) rfl
theorem q1798 : (Jvm.Cond.methodLink "BrushSellersLaw" (115 : Nat) ({ cls := "BrushSellers", name := "account", desc := "(I)I" } : Jvm.MethodName)) ∈ lw_all := lw_g (lw_at lw_m8 55 rfl) rfl
theorem q1825 : (Jvm.Cond.methodLink "BrushSellersLaw" (119 : Nat) ({ cls := "BrushSellers", name := "isBalanced", desc := "()I" } : Jvm.MethodName)) ∈ lw_all := lw_g (lw_at lw_m8 82 rfl) rfl
theorem q1837 : (Jvm.Cond.methodLink "BrushSellersLaw" (123 : Nat) ({ cls := "BrushSellers", name := "meanTemper", desc := "()D" } : Jvm.MethodName)) ∈ lw_all := lw_g (lw_at lw_m8 94 rfl) rfl
theorem q1846 : (Jvm.Cond.methodLink "BrushSellersLaw" (128 : Nat) ({ cls := "BrushSellers", name := "backShare", desc := "()F" } : Jvm.MethodName)) ∈ lw_all := lw_g (lw_at lw_m8 103 rfl) rfl
theorem q1850 : (Jvm.Cond.methodLink "BrushSellersLaw" (133 : Nat) ({ cls := "BrushSellers", name := "undo", desc := "()I" } : Jvm.MethodName)) ∈ lw_all := lw_g (lw_at lw_m8 107 rfl) rfl
theorem q1869 : (Jvm.Cond.methodLink "BrushSellersLaw" (137 : Nat) ({ cls := "BrushSellers", name := "save", desc := "()I" } : Jvm.MethodName)) ∈ lw_all := lw_g (lw_at lw_m8 126 rfl) rfl
theorem q1873 : (Jvm.Cond.methodLink "BrushSellersLaw" (141 : Nat) ({ cls := "BrushSellers", name := "restore", desc := "()I" } : Jvm.MethodName)) ∈ lw_all := lw_g (lw_at lw_m8 130 rfl) rfl
theorem q1884 : (Jvm.Cond.classLink "BrushSellersLaw" (10 : Nat) "BrushSellersModel") ∈ lw_all := lw_g (lw_at lw_m8 141 rfl) rfl
theorem q1886 : (Jvm.Cond.methodLink "BrushSellersLaw" (12 : Nat) ({ cls := "BrushSellersModel", name := "<init>", desc := "()V" } : Jvm.MethodName)) ∈ lw_all := lw_g (lw_at lw_m8 143 rfl) rfl
theorem q1939 : (Jvm.Cond.methodLink "BrushSellersLaw" (17 : Nat) ({ cls := "BrushSellersModel", name := "seller", desc := "(I)I" } : Jvm.MethodName)) ∈ lw_all := lw_g (lw_at lw_m8 196 rfl) rfl
theorem q1958 : (Jvm.Cond.methodLink "BrushSellersLaw" (22 : Nat) ({ cls := "BrushSellersModel", name := "dog", desc := "(II)I" } : Jvm.MethodName)) ∈ lw_all := lw_g (lw_at lw_m8 215 rfl) rfl
theorem q1973 : (Jvm.Cond.methodLink "BrushSellersLaw" (26 : Nat) ({ cls := "BrushSellersModel", name := "make", desc := "(II)I" } : Jvm.MethodName)) ∈ lw_all := lw_g (lw_at lw_m8 230 rfl) rfl
theorem q1984 : (Jvm.Cond.methodLink "BrushSellersLaw" (31 : Nat) ({ cls := "BrushSellersModel", name := "take", desc := "(III)I" } : Jvm.MethodName)) ∈ lw_all := lw_g (lw_at lw_m9 1 rfl) rfl
theorem q2012 : (Jvm.Cond.methodLink "BrushSellersLaw" (35 : Nat) ({ cls := "BrushSellersModel", name := "sellerOf", desc := "(II)I" } : Jvm.MethodName)) ∈ lw_all := lw_g (lw_at lw_m9 29 rfl) rfl
theorem q2016 : (Jvm.Cond.methodLink "BrushSellersLaw" (39 : Nat) ({ cls := "BrushSellersModel", name := "houseOf", desc := "(II)I" } : Jvm.MethodName)) ∈ lw_all := lw_g (lw_at lw_m9 33 rfl) rfl
theorem q2027 : (Jvm.Cond.methodLink "BrushSellersLaw" (43 : Nat) ({ cls := "BrushSellersModel", name := "depot", desc := "(I)I" } : Jvm.MethodName)) ∈ lw_all := lw_g (lw_at lw_m9 44 rfl) rfl
theorem q2031 : (Jvm.Cond.methodLink "BrushSellersLaw" (47 : Nat) ({ cls := "BrushSellersModel", name := "go", desc := "(II)I" } : Jvm.MethodName)) ∈ lw_all := lw_g (lw_at lw_m9 48 rfl) rfl
theorem q2044 : (Jvm.Cond.methodLink "BrushSellersLaw" (51 : Nat) ({ cls := "BrushSellersModel", name := "soles", desc := "(I)I" } : Jvm.MethodName)) ∈ lw_all := lw_g (lw_at lw_m9 61 rfl) rfl
theorem q2052 : (Jvm.Cond.methodLink "BrushSellersLaw" (55 : Nat) ({ cls := "BrushSellersModel", name := "pet", desc := "(I)I" } : Jvm.MethodName)) ∈ lw_all := lw_g (lw_at lw_m9 69 rfl) rfl
theorem q2061 : (Jvm.Cond.methodLink "BrushSellersLaw" (59 : Nat) ({ cls := "BrushSellersModel", name := "rounds", desc := "(II)I" } : Jvm.MethodName)) ∈ lw_all := lw_g (lw_at lw_m9 78 rfl) rfl
theorem q2065 : (Jvm.Cond.methodLink "BrushSellersLaw" (63 : Nat) ({ cls := "BrushSellersModel", name := "roundsAgain", desc := "(II)I" } : Jvm.MethodName)) ∈ lw_all := lw_g (lw_at lw_m9 82 rfl) rfl
theorem q2070 : (Jvm.Cond.methodLink "BrushSellersLaw" (68 : Nat) ({ cls := "BrushSellersModel", name := "would", desc := "(IIII)I" } : Jvm.MethodName)) ∈ lw_all := lw_g (lw_at lw_m9 87 rfl) rfl
theorem q2083 : (Jvm.Cond.methodLink "BrushSellersLaw" (72 : Nat) ({ cls := "BrushSellersModel", name := "bestHouse", desc := "(III)I" } : Jvm.MethodName)) ∈ lw_all := lw_g (lw_at lw_m9 100 rfl) rfl
theorem q2087 : (Jvm.Cond.methodLink "BrushSellersLaw" (76 : Nat) ({ cls := "BrushSellersModel", name := "ring", desc := "(III)I" } : Jvm.MethodName)) ∈ lw_all := lw_g (lw_at lw_m9 104 rfl) rfl
theorem q2099 : (Jvm.Cond.methodLink "BrushSellersLaw" (80 : Nat) ({ cls := "BrushSellersModel", name := "back", desc := "(I)I" } : Jvm.MethodName)) ∈ lw_all := lw_g (lw_at lw_m9 116 rfl) rfl
theorem q2107 : (Jvm.Cond.methodLink "BrushSellersLaw" (84 : Nat) ({ cls := "BrushSellersModel", name := "saleOf", desc := "(II)I" } : Jvm.MethodName)) ∈ lw_all := lw_g (lw_at lw_m9 124 rfl) rfl
theorem q2111 : (Jvm.Cond.methodLink "BrushSellersLaw" (89 : Nat) ({ cls := "BrushSellersModel", name := "day", desc := "()I" } : Jvm.MethodName)) ∈ lw_all := lw_g (lw_at lw_m9 128 rfl) rfl
theorem q2119 : (Jvm.Cond.methodLink "BrushSellersLaw" (93 : Nat) ({ cls := "BrushSellersModel", name := "append", desc := "(I)I" } : Jvm.MethodName)) ∈ lw_all := lw_g (lw_at lw_m9 136 rfl) rfl
theorem q2123 : (Jvm.Cond.methodLink "BrushSellersLaw" (97 : Nat) ({ cls := "BrushSellersModel", name := "run", desc := "()I" } : Jvm.MethodName)) ∈ lw_all := lw_g (lw_at lw_m9 140 rfl) rfl
theorem q2165 : (Jvm.Cond.methodLink "BrushSellersLaw" (101 : Nat) ({ cls := "BrushSellersModel", name := "tell", desc := "(I)I" } : Jvm.MethodName)) ∈ lw_all := lw_g (lw_at lw_m9 182 rfl) rfl
theorem q2182 : (Jvm.Cond.methodLink "BrushSellersLaw" (105 : Nat) ({ cls := "BrushSellersModel", name := "tellStreet", desc := "()I" } : Jvm.MethodName)) ∈ lw_all := lw_g (lw_at lw_m9 199 rfl) rfl
theorem q2188 : (Jvm.Cond.methodLink "BrushSellersLaw" (109 : Nat) ({ cls := "BrushSellersModel", name := "character", desc := "(I)I" } : Jvm.MethodName)) ∈ lw_all := lw_g (lw_at lw_m9 205 rfl) rfl
theorem q2192 : (Jvm.Cond.methodLink "BrushSellersLaw" (114 : Nat) ({ cls := "BrushSellersModel", name := "reason", desc := "(Z)I" } : Jvm.MethodName)) ∈ lw_all := lw_g (lw_at lw_m9 209 rfl) rfl
theorem q2196 : (Jvm.Cond.methodLink "BrushSellersLaw" (118 : Nat) ({ cls := "BrushSellersModel", name := "account", desc := "(I)I" } : Jvm.MethodName)) ∈ lw_all := lw_g (lw_at lw_m9 213 rfl) rfl
theorem q2208 : (Jvm.Cond.methodLink "BrushSellersLaw" (122 : Nat) ({ cls := "BrushSellersModel", name := "isBalanced", desc := "()I" } : Jvm.MethodName)) ∈ lw_all := lw_g (lw_at lw_m9 225 rfl) rfl
theorem q2212 : (Jvm.Cond.methodLink "BrushSellersLaw" (127 : Nat) ({ cls := "BrushSellersModel", name := "meanTemper", desc := "()D" } : Jvm.MethodName)) ∈ lw_all := lw_g (lw_at lw_m9 229 rfl) rfl
theorem q2217 : (Jvm.Cond.methodLink "BrushSellersLaw" (132 : Nat) ({ cls := "BrushSellersModel", name := "backShare", desc := "()F" } : Jvm.MethodName)) ∈ lw_all := lw_g (lw_at lw_m9 234 rfl) rfl
theorem q2221 : (Jvm.Cond.methodLink "BrushSellersLaw" (136 : Nat) ({ cls := "BrushSellersModel", name := "undo", desc := "()I" } : Jvm.MethodName)) ∈ lw_all := lw_g (lw_at lw_m9 238 rfl) rfl
theorem q2225 : (Jvm.Cond.methodLink "BrushSellersLaw" (140 : Nat) ({ cls := "BrushSellersModel", name := "save", desc := "()I" } : Jvm.MethodName)) ∈ lw_all := lw_g (lw_at lw_m10 2 rfl) rfl
theorem q2229 : (Jvm.Cond.methodLink "BrushSellersLaw" (144 : Nat) ({ cls := "BrushSellersModel", name := "restore", desc := "()I" } : Jvm.MethodName)) ∈ lw_all := lw_g (lw_at lw_m10 6 rfl) rfl

theorem q685 : (Jvm.Cond.sameMethod "[B" "java/lang/Object" "clone" "()Ljava/lang/Object;") ∈ lw_all := lw_g (lw_at lw_m3 142 rfl) rfl
set_option maxRecDepth 100000
theorem q686 : (Jvm.Cond.selects "[B" ({ cls := "[B", name := "clone", desc := "()Ljava/lang/Object;" } : Jvm.MethodName) ({ cls := "java/lang/Object", name := "clone", desc := "()Ljava/lang/Object;" } : Jvm.MethodName)) ∈ lw_all := lw_g (lw_at lw_m3 143 rfl) rfl
theorem q687 : (Jvm.Cond.castable "[B" "java/lang/Cloneable") ∈ lw_tbl := lw_at lw_m3 144 rfl
theorem q2282 : (Jvm.Cond.castable "[B" "java/lang/Object") ∈ lw_tbl := lw_at lw_m10 59 rfl

theorem q2280 : (Jvm.Cond.castable "[I" "java/lang/Object") ∈ lw_tbl := lw_at lw_m10 57 rfl
set_option maxRecDepth 100000

theorem q474 : (Jvm.Cond.sameMethod "[J" "java/lang/Object" "clone" "()Ljava/lang/Object;") ∈ lw_all := lw_g (lw_at lw_m2 171 rfl) rfl
set_option maxRecDepth 100000
theorem q477 : (Jvm.Cond.selects "[J" ({ cls := "[J", name := "clone", desc := "()Ljava/lang/Object;" } : Jvm.MethodName) ({ cls := "java/lang/Object", name := "clone", desc := "()Ljava/lang/Object;" } : Jvm.MethodName)) ∈ lw_all := lw_g (lw_at lw_m2 174 rfl) rfl
theorem q478 : (Jvm.Cond.castable "[J" "java/lang/Cloneable") ∈ lw_tbl := lw_at lw_m2 175 rfl
theorem q2281 : (Jvm.Cond.castable "[J" "java/lang/Object") ∈ lw_tbl := lw_at lw_m10 58 rfl

theorem q2276 : (Jvm.Cond.sameMethod "[Ljava/lang/Object;" "java/lang/Object" "getClass" "()Ljava/lang/Class;") ∈ lw_all := lw_g (lw_at lw_m10 53 rfl) rfl
set_option maxRecDepth 100000
theorem q2277 : (Jvm.Cond.selects "[Ljava/lang/Object;" ({ cls := "java/lang/Object", name := "getClass", desc := "()Ljava/lang/Class;" } : Jvm.MethodName) ({ cls := "java/lang/Object", name := "getClass", desc := "()Ljava/lang/Class;" } : Jvm.MethodName)) ∈ lw_all := lw_g (lw_at lw_m10 54 rfl) rfl
theorem q2279 : (Jvm.Cond.castable "[Ljava/lang/Object;" "java/lang/Object") ∈ lw_tbl := lw_at lw_m10 56 rfl

theorem q2283 : (Jvm.Cond.castable "[Ljava/lang/String;" "java/lang/Object") ∈ lw_tbl := lw_at lw_m10 60 rfl
set_option maxRecDepth 100000

theorem q1502 : (Jvm.Cond.interfaceMethod "java/lang/CharSequence" "java/lang/CharSequence" "length" "()I") ∈ lw_tbl := lw_at lw_m6 239 rfl
set_option maxRecDepth 100000
theorem q1503 : (Jvm.Cond.declares ({ cls := "java/lang/CharSequence", name := "length", desc := "()I" } : Jvm.MethodName)) ∈ lw_tbl := lw_at lw_m7 0 rfl
theorem q1514 : (Jvm.Cond.interfaceMethod "java/lang/CharSequence" "java/lang/CharSequence" "charAt" "(I)C") ∈ lw_tbl := lw_at lw_m7 11 rfl
theorem q1515 : (Jvm.Cond.declares ({ cls := "java/lang/CharSequence", name := "charAt", desc := "(I)C" } : Jvm.MethodName)) ∈ lw_tbl := lw_at lw_m7 12 rfl

theorem q99 : (Jvm.Cond.initialized "java/lang/Number") ∈ lw_all := lw_g (lw_at lw_m1 36 rfl) rfl
set_option maxRecDepth 100000

theorem q76 : (Jvm.Cond.initialized "java/lang/System") ∈ lw_all := lw_g (lw_at lw_m1 13 rfl) rfl
set_option maxRecDepth 100000
theorem q293 : (Jvm.Cond.static ({ cls := "java/lang/System", name := "arraycopy", desc := "(Ljava/lang/Object;ILjava/lang/Object;II)V" } : Jvm.MethodName)) ∈ lw_all := lw_g (lw_at lw_m1 230 rfl) rfl
theorem q294 : (Jvm.Cond.native ({ cls := "java/lang/System", name := "arraycopy", desc := "(Ljava/lang/Object;ILjava/lang/Object;II)V" } : Jvm.MethodName)) ∈ lw_all := lw_g (lw_at lw_m1 231 rfl) rfl

theorem q93 : (Jvm.Cond.initialized "java/util/AbstractList$ListItr") ∈ lw_all := lw_g (lw_at lw_m1 30 rfl) rfl
set_option maxRecDepth 100000
theorem q273 : (Jvm.Cond.selects "java/util/AbstractList$ListItr" ({ cls := "java/lang/Object", name := "getClass", desc := "()Ljava/lang/Class;" } : Jvm.MethodName) ({ cls := "java/lang/Object", name := "getClass", desc := "()Ljava/lang/Class;" } : Jvm.MethodName)) ∈ lw_all := lw_g (lw_at lw_m1 210 rfl) rfl
theorem q520 : (Jvm.Cond.castable "java/util/AbstractList$ListItr" "java/util/Iterator") ∈ lw_tbl := lw_at lw_m2 217 rfl
theorem q521 : (Jvm.Cond.selects "java/util/AbstractList$ListItr" ({ cls := "java/util/Iterator", name := "hasNext", desc := "()Z" } : Jvm.MethodName) ({ cls := "java/util/AbstractList$Itr", name := "hasNext", desc := "()Z" } : Jvm.MethodName)) ∈ lw_all := lw_g (lw_at lw_m2 218 rfl) rfl
theorem q522 : (Jvm.Cond.unhidden "java/util/AbstractList$ListItr" "hasNext" "()Z") ∈ lw_tbl := lw_at lw_m2 219 rfl
theorem q554 : (Jvm.Cond.selects "java/util/AbstractList$ListItr" ({ cls := "java/util/Iterator", name := "next", desc := "()Ljava/lang/Object;" } : Jvm.MethodName) ({ cls := "java/util/AbstractList$Itr", name := "next", desc := "()Ljava/lang/Object;" } : Jvm.MethodName)) ∈ lw_all := lw_g (lw_at lw_m3 11 rfl) rfl
theorem q555 : (Jvm.Cond.unhidden "java/util/AbstractList$ListItr" "next" "()Ljava/lang/Object;") ∈ lw_tbl := lw_at lw_m3 12 rfl
theorem q562 : (Jvm.Cond.selects "java/util/AbstractList$ListItr" ({ cls := "java/util/AbstractList$Itr", name := "checkForComodification", desc := "()V" } : Jvm.MethodName) ({ cls := "java/util/AbstractList$Itr", name := "checkForComodification", desc := "()V" } : Jvm.MethodName)) ∈ lw_all := lw_g (lw_at lw_m3 19 rfl) rfl
theorem q2264 : (Jvm.Cond.castable "java/util/AbstractList$ListItr" "java/lang/Object") ∈ lw_tbl := lw_at lw_m10 41 rfl
theorem q2290 : (Jvm.Cond.fieldLink "java/util/AbstractList$ListItr" (1 : Nat) "java/util/AbstractList$ListItr" "this$0" "Ljava/util/AbstractList;") ∈ lw_all := lw_g (lw_at lw_m10 67 rfl) rfl
theorem q2291 : (Jvm.Cond.fieldLink "java/util/AbstractList$ListItr" (13 : Nat) "java/util/AbstractList$ListItr" "cursor" "I") ∈ lw_all := lw_g (lw_at lw_m10 68 rfl) rfl
theorem q2292 : (Jvm.Cond.sameField "java/util/AbstractList$ListItr" "java/util/AbstractList$Itr" "cursor" "I") ∈ lw_all := lw_g (lw_at lw_m10 69 rfl) rfl

theorem q518 : (Jvm.Cond.interfaceMethod "java/util/Iterator" "java/util/Iterator" "hasNext" "()Z") ∈ lw_tbl := lw_at lw_m2 215 rfl
set_option maxRecDepth 100000
theorem q519 : (Jvm.Cond.declares ({ cls := "java/util/Iterator", name := "hasNext", desc := "()Z" } : Jvm.MethodName)) ∈ lw_tbl := lw_at lw_m2 216 rfl
theorem q552 : (Jvm.Cond.interfaceMethod "java/util/Iterator" "java/util/Iterator" "next" "()Ljava/lang/Object;") ∈ lw_tbl := lw_at lw_m3 9 rfl
theorem q553 : (Jvm.Cond.declares ({ cls := "java/util/Iterator", name := "next", desc := "()Ljava/lang/Object;" } : Jvm.MethodName)) ∈ lw_tbl := lw_at lw_m3 10 rfl

theorem q1614 : (Jvm.Cond.interfaceMethod "jdk/internal/access/JavaLangAccess" "jdk/internal/access/JavaLangAccess" "getUTF16Char" "([BI)C") ∈ lw_tbl := lw_at lw_m7 111 rfl
set_option maxRecDepth 100000
theorem q1615 : (Jvm.Cond.declares ({ cls := "jdk/internal/access/JavaLangAccess", name := "getUTF16Char", desc := "([BI)C" } : Jvm.MethodName)) ∈ lw_tbl := lw_at lw_m7 112 rfl

theorem q133 : (Jvm.Cond.arrayOver (Jvm.ClassFile.FieldType.object "java/lang/Object")) ∈ lw_tbl := lw_at lw_m1 70 rfl
set_option maxRecDepth 100000
theorem q205 : (Jvm.Cond.arrayClass Jvm.ClassFile.FieldType.int) ∈ lw_all := lw_g (lw_at lw_m1 142 rfl) rfl
theorem q206 : (Jvm.Cond.arrayClass Jvm.ClassFile.FieldType.long) ∈ lw_all := lw_g (lw_at lw_m1 143 rfl) rfl
theorem q402 : (Jvm.Cond.arrayClass Jvm.ClassFile.FieldType.byte) ∈ lw_all := lw_g (lw_at lw_m2 99 rfl) rfl
theorem q1462 : (Jvm.Cond.arrayOver (Jvm.ClassFile.FieldType.object "java/lang/String")) ∈ lw_tbl := lw_at lw_m6 199 rfl
theorem q2284 : (Jvm.Cond.arrayClass Jvm.ClassFile.FieldType.char) ∈ lw_all := lw_g (lw_at lw_m10 61 rfl) rfl
theorem q2285 : (Jvm.Cond.arrayClass Jvm.ClassFile.FieldType.short) ∈ lw_all := lw_g (lw_at lw_m10 62 rfl) rfl

